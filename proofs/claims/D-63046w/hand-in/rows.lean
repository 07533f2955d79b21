section
-- ===== PART A: goes FIRST, ahead of the names: the tables' words, and 'selects' of the private methods out of them =====
/-- a private method of a class that the tables say can be made, by its rows of tables_1 -/
def lw_okq (q : MethodName × Nat) : Prop := (q.1.cls ≠ "java/lang/invoke/MethodHandle" ∧ q.1.cls ≠ "java/lang/invoke/VarHandle") ∧ Cond.instantiable q.1.cls q.2 ∈ tables_1 ∧ Cond.privateMethod q.1 ∈ tables_1 ∧ Cond.instanceMethod q.1 ∈ tables_1
set_option maxRecDepth 100000
theorem lw_t1 {w : Cond} (h : w ∈ tables_1_1) : w ∈ tables_1 := List.mem_append_left _ h
theorem lw_t2 {w : Cond} (h : w ∈ tables_1_2) : w ∈ tables_1 := List.mem_append_right _ h
theorem lw_p0 : lw_okq (⟨"LexTables", "emptyTable", "()V"⟩, 21) := ⟨⟨by decide +kernel, by decide +kernel⟩, lw_t1 (List.mem_of_getElem? (i := 4) rfl), lw_t1 (List.mem_of_getElem? (i := 12) rfl), lw_t1 (List.mem_of_getElem? (i := 13) rfl)⟩
theorem lw_p1 : lw_okq (⟨"LexTables", "pushPlace", "(I)V"⟩, 21) := ⟨⟨by decide +kernel, by decide +kernel⟩, lw_t1 (List.mem_of_getElem? (i := 4) rfl), lw_t1 (List.mem_of_getElem? (i := 87) rfl), lw_t1 (List.mem_of_getElem? (i := 88) rfl)⟩
theorem lw_p2 : lw_okq (⟨"LexTables", "push", "(JJZ)V"⟩, 21) := ⟨⟨by decide +kernel, by decide +kernel⟩, lw_t1 (List.mem_of_getElem? (i := 4) rfl), lw_t1 (List.mem_of_getElem? (i := 91) rfl), lw_t1 (List.mem_of_getElem? (i := 92) rfl)⟩
theorem lw_p3 : lw_okq (⟨"LexTables", "joinTwo", "()V"⟩, 21) := ⟨⟨by decide +kernel, by decide +kernel⟩, lw_t1 (List.mem_of_getElem? (i := 4) rfl), lw_t1 (List.mem_of_getElem? (i := 95) rfl), lw_t1 (List.mem_of_getElem? (i := 96) rfl)⟩
theorem lw_p4 : lw_okq (⟨"LexTables", "lead", "(JJ)V"⟩, 21) := ⟨⟨by decide +kernel, by decide +kernel⟩, lw_t1 (List.mem_of_getElem? (i := 4) rfl), lw_t1 (List.mem_of_getElem? (i := 99) rfl), lw_t1 (List.mem_of_getElem? (i := 100) rfl)⟩
theorem lw_p5 : lw_okq (⟨"LexTables", "makeRule", "()V"⟩, 21) := ⟨⟨by decide +kernel, by decide +kernel⟩, lw_t1 (List.mem_of_getElem? (i := 4) rfl), lw_t1 (List.mem_of_getElem? (i := 103) rfl), lw_t1 (List.mem_of_getElem? (i := 104) rfl)⟩
theorem lw_p6 : lw_okq (⟨"LexTables", "cut", "()V"⟩, 21) := ⟨⟨by decide +kernel, by decide +kernel⟩, lw_t1 (List.mem_of_getElem? (i := 4) rfl), lw_t1 (List.mem_of_getElem? (i := 123) rfl), lw_t1 (List.mem_of_getElem? (i := 124) rfl)⟩
theorem lw_p7 : lw_okq (⟨"LexTables", "cutWord", "(I)V"⟩, 21) := ⟨⟨by decide +kernel, by decide +kernel⟩, lw_t1 (List.mem_of_getElem? (i := 4) rfl), lw_t1 (List.mem_of_getElem? (i := 127) rfl), lw_t1 (List.mem_of_getElem? (i := 128) rfl)⟩
theorem lw_p8 : lw_okq (⟨"LexTables", "step", "(II)I"⟩, 21) := ⟨⟨by decide +kernel, by decide +kernel⟩, lw_t1 (List.mem_of_getElem? (i := 4) rfl), lw_t1 (List.mem_of_getElem? (i := 131) rfl), lw_t1 (List.mem_of_getElem? (i := 132) rfl)⟩
theorem lw_p9 : lw_okq (⟨"LexTables", "allFirst", "()J"⟩, 21) := ⟨⟨by decide +kernel, by decide +kernel⟩, lw_t1 (List.mem_of_getElem? (i := 4) rfl), lw_t1 (List.mem_of_getElem? (i := 135) rfl), lw_t1 (List.mem_of_getElem? (i := 136) rfl)⟩
theorem lw_p10 : lw_okq (⟨"LexTables", "following", "(J)J"⟩, 21) := ⟨⟨by decide +kernel, by decide +kernel⟩, lw_t1 (List.mem_of_getElem? (i := 4) rfl), lw_t1 (List.mem_of_getElem? (i := 139) rfl), lw_t1 (List.mem_of_getElem? (i := 140) rfl)⟩
theorem lw_p11 : lw_okq (⟨"LexTables", "advance", "(JI)J"⟩, 21) := ⟨⟨by decide +kernel, by decide +kernel⟩, lw_t1 (List.mem_of_getElem? (i := 4) rfl), lw_t1 (List.mem_of_getElem? (i := 143) rfl), lw_t1 (List.mem_of_getElem? (i := 144) rfl)⟩
theorem lw_p12 : lw_okq (⟨"LexTables", "findState", "(J)I"⟩, 21) := ⟨⟨by decide +kernel, by decide +kernel⟩, lw_t1 (List.mem_of_getElem? (i := 4) rfl), lw_t1 (List.mem_of_getElem? (i := 147) rfl), lw_t1 (List.mem_of_getElem? (i := 148) rfl)⟩
theorem lw_p13 : lw_okq (⟨"LexTables", "makeState", "(J)I"⟩, 21) := ⟨⟨by decide +kernel, by decide +kernel⟩, lw_t1 (List.mem_of_getElem? (i := 4) rfl), lw_t1 (List.mem_of_getElem? (i := 151) rfl), lw_t1 (List.mem_of_getElem? (i := 152) rfl)⟩
theorem lw_p14 : lw_okq (⟨"LexTablesModel", "workText", "()V"⟩, 14) := ⟨⟨by decide +kernel, by decide +kernel⟩, lw_t1 (List.mem_of_getElem? (i := 175) rfl), lw_t2 (List.mem_of_getElem? (i := 8) rfl), lw_t2 (List.mem_of_getElem? (i := 9) rfl)⟩
theorem lw_p15 : lw_okq (⟨"LexTablesModel", "work", "()V"⟩, 14) := ⟨⟨by decide +kernel, by decide +kernel⟩, lw_t1 (List.mem_of_getElem? (i := 175) rfl), lw_t2 (List.mem_of_getElem? (i := 12) rfl), lw_t2 (List.mem_of_getElem? (i := 13) rfl)⟩
def lw_privs_1 : List (MethodName × Nat) := [(⟨"LexTables", "emptyTable", "()V"⟩, 21), (⟨"LexTables", "pushPlace", "(I)V"⟩, 21), (⟨"LexTables", "push", "(JJZ)V"⟩, 21), (⟨"LexTables", "joinTwo", "()V"⟩, 21), (⟨"LexTables", "lead", "(JJ)V"⟩, 21), (⟨"LexTables", "makeRule", "()V"⟩, 21), (⟨"LexTables", "cut", "()V"⟩, 21), (⟨"LexTables", "cutWord", "(I)V"⟩, 21), (⟨"LexTables", "step", "(II)I"⟩, 21), (⟨"LexTables", "allFirst", "()J"⟩, 21), (⟨"LexTables", "following", "(J)J"⟩, 21), (⟨"LexTables", "advance", "(JI)J"⟩, 21), (⟨"LexTables", "findState", "(J)I"⟩, 21), (⟨"LexTables", "makeState", "(J)I"⟩, 21), (⟨"LexTablesModel", "workText", "()V"⟩, 14), (⟨"LexTablesModel", "work", "()V"⟩, 14)]
theorem lw_r1 : ∀ q ∈ lw_privs_1, lw_okq q := List.forall_mem_cons.mpr ⟨lw_p0, List.forall_mem_cons.mpr ⟨lw_p1, List.forall_mem_cons.mpr ⟨lw_p2, List.forall_mem_cons.mpr ⟨lw_p3, List.forall_mem_cons.mpr ⟨lw_p4, List.forall_mem_cons.mpr ⟨lw_p5, List.forall_mem_cons.mpr ⟨lw_p6, List.forall_mem_cons.mpr ⟨lw_p7, List.forall_mem_cons.mpr ⟨lw_p8, List.forall_mem_cons.mpr ⟨lw_p9, List.forall_mem_cons.mpr ⟨lw_p10, List.forall_mem_cons.mpr ⟨lw_p11, List.forall_mem_cons.mpr ⟨lw_p12, List.forall_mem_cons.mpr ⟨lw_p13, List.forall_mem_cons.mpr ⟨lw_p14, List.forall_mem_cons.mpr ⟨lw_p15, fun _ h => absurd h List.not_mem_nil⟩⟩⟩⟩⟩⟩⟩⟩⟩⟩⟩⟩⟩⟩⟩⟩
theorem lw_p16 : lw_okq (⟨"LexTablesModel", "matched", "(III)Z"⟩, 14) := ⟨⟨by decide +kernel, by decide +kernel⟩, lw_t1 (List.mem_of_getElem? (i := 175) rfl), lw_t2 (List.mem_of_getElem? (i := 16) rfl), lw_t2 (List.mem_of_getElem? (i := 17) rfl)⟩
theorem lw_p17 : lw_okq (⟨"LexTablesModel", "both", "(IIIII)Z"⟩, 14) := ⟨⟨by decide +kernel, by decide +kernel⟩, lw_t1 (List.mem_of_getElem? (i := 175) rfl), lw_t2 (List.mem_of_getElem? (i := 20) rfl), lw_t2 (List.mem_of_getElem? (i := 21) rfl)⟩
theorem lw_p18 : lw_okq (⟨"LexTablesModel", "is", "(III)Z"⟩, 14) := ⟨⟨by decide +kernel, by decide +kernel⟩, lw_t1 (List.mem_of_getElem? (i := 175) rfl), lw_t2 (List.mem_of_getElem? (i := 24) rfl), lw_t2 (List.mem_of_getElem? (i := 25) rfl)⟩
theorem lw_p19 : lw_okq (⟨"LexTablesModel", "end", "(I)I"⟩, 14) := ⟨⟨by decide +kernel, by decide +kernel⟩, lw_t1 (List.mem_of_getElem? (i := 175) rfl), lw_t2 (List.mem_of_getElem? (i := 28) rfl), lw_t2 (List.mem_of_getElem? (i := 29) rfl)⟩
theorem lw_p20 : lw_okq (⟨"LexTablesModel", "least", "(II)I"⟩, 14) := ⟨⟨by decide +kernel, by decide +kernel⟩, lw_t1 (List.mem_of_getElem? (i := 175) rfl), lw_t2 (List.mem_of_getElem? (i := 32) rfl), lw_t2 (List.mem_of_getElem? (i := 33) rfl)⟩
theorem lw_p21 : lw_okq (⟨"LexTablesModel", "begin", "(I)I"⟩, 14) := ⟨⟨by decide +kernel, by decide +kernel⟩, lw_t1 (List.mem_of_getElem? (i := 175) rfl), lw_t2 (List.mem_of_getElem? (i := 40) rfl), lw_t2 (List.mem_of_getElem? (i := 41) rfl)⟩
def lw_privs_2 : List (MethodName × Nat) := [(⟨"LexTablesModel", "matched", "(III)Z"⟩, 14), (⟨"LexTablesModel", "both", "(IIIII)Z"⟩, 14), (⟨"LexTablesModel", "is", "(III)Z"⟩, 14), (⟨"LexTablesModel", "end", "(I)I"⟩, 14), (⟨"LexTablesModel", "least", "(II)I"⟩, 14), (⟨"LexTablesModel", "begin", "(I)I"⟩, 14)]
theorem lw_r2 : ∀ q ∈ lw_privs_2, lw_okq q := List.forall_mem_cons.mpr ⟨lw_p16, List.forall_mem_cons.mpr ⟨lw_p17, List.forall_mem_cons.mpr ⟨lw_p18, List.forall_mem_cons.mpr ⟨lw_p19, List.forall_mem_cons.mpr ⟨lw_p20, List.forall_mem_cons.mpr ⟨lw_p21, fun _ h => absurd h List.not_mem_nil⟩⟩⟩⟩⟩⟩
def lw_privs : List (MethodName × Nat) := lw_privs_1 ++ (lw_privs_2)
def lw_tbl : List Cond := k2_sels lw_privs ++ tables_1
theorem lw_privs_ok : ∀ q ∈ lw_privs, lw_okq q := by
  show ∀ q ∈ lw_privs_1 ++ (lw_privs_2), lw_okq q
  exact List.forall_mem_append.mpr ⟨lw_r1, lw_r2⟩
-- ===== ONE list of words for every method: the tables' words that hold all through a run =====
def lw_all : List Cond := lw_tbl.filter goodWord
/-- a word of the tables by its place: claim/WORDS.tsv -/
theorem lw_w {w : Cond} (i : Nat) (h : lw_tbl[i]? = some w) (g : goodWord w = true) : w ∈ lw_all := List.mem_filter.mpr ⟨List.mem_of_getElem? h, g⟩
theorem lw_all_tbl {w : Cond} (h : w ∈ lw_all) : w ∈ lw_tbl := (List.mem_filter.mp h).1
theorem lw_self : GoodIn lw_all lw_all := fun w h => ⟨h, good_of_word (List.mem_filter.mp h).2⟩
/-- a class's field words, by their places -/
theorem lw_in (ws : List Cond) (ps : List Nat) (hp : ws = ps.filterMap (fun i => lw_tbl[i]?)) (hg : ws.all goodWord = true) : ∀ w ∈ ws, w ∈ lw_all := by
  intro w h
  have h1 := List.all_eq_true.mp hg w h
  rw [hp] at h
  obtain ⟨i, -, hi⟩ := List.mem_filterMap.mp h
  exact lw_w i hi h1
/-- the words of a contract for the method y with code b, L locals, answer r -/
abbrev ws_ (y : MethodName) (b : ByteArray) (L : Nat) (r : Option FieldType) : List Cond := Cond.code y b L r :: lw_all
theorem lw_meth {y : MethodName} {b : ByteArray} {L : Nat} {r : Option FieldType} (h : Cond.code y b L r ∈ lw_all) : GoodIn lw_all (ws_ y b L r) := by
  intro w hw
  rcases List.mem_cons.mp hw with e | e
  · rw [e]
    exact lw_self _ h
  · exact lw_self _ e
theorem lw_app {a c : List Cond} (ha : ∀ w ∈ a, w ∈ lw_all) (hc : GoodIn lw_all c) : GoodIn lw_all (a ++ c) := by
  intro w hw
  rcases List.mem_append.mp hw with e | e
  · exact lw_self w (ha w e)
  · exact hc w e
/-- what a call through an object asks: cwV n hts (lw_V ..) -/
theorem lw_V {own : String} {idx : Nat} {C : String} {y : MethodName} {b : ByteArray} {L : Nat} {r : Option FieldType} (h1 : Cond.methodLink own idx y ∈ lw_all) (h2 : Cond.instanceMethod y ∈ lw_all) (h3 : Cond.selects C y y ∈ lw_all) (h4 : Cond.initialized C ∈ lw_all) (h5 : Cond.code y b L r ∈ lw_all) : GoodIn lw_all (wsV own idx C y (ws_ y b L r)) := by
  refine lw_app ?_ (lw_meth h5)
  intro w hw
  simp only [List.mem_cons, List.not_mem_nil, or_false] at hw
  rcases hw with e | e | e | e
  · rw [e]; exact h1
  · rw [e]; exact h2
  · rw [e]; exact h3
  · rw [e]; exact h4
/-- what a static call asks: va_cwS n hts (lw_S ..) -/
theorem lw_S {own : String} {idx : Nat} {y : MethodName} {b : ByteArray} {L : Nat} {r : Option FieldType} (h1 : Cond.methodLink own idx y ∈ lw_all) (h2 : Cond.static y ∈ lw_all) (h3 : Cond.initialized y.cls ∈ lw_all) (h4 : Cond.code y b L r ∈ lw_all) : GoodIn lw_all (va_wsS own idx y (ws_ y b L r)) := by
  refine lw_app ?_ (lw_meth h4)
  intro w hw
  simp only [List.mem_cons, List.not_mem_nil, or_false] at hw
  rcases hw with e | e | e
  · rw [e]; exact h1
  · rw [e]; exact h2
  · rw [e]; exact h3
/-- the words of a contract for a method WITH HANDLERS (hh: its table) -/
abbrev wsW_ (y : MethodName) (b : ByteArray) (L : Nat) (r : Option FieldType) (hh : List (Nat × Nat × Nat × Nat)) : List Cond := Cond.codeWith y b L r hh :: lw_all
theorem lw_methW {y : MethodName} {b : ByteArray} {L : Nat} {r : Option FieldType} {hh : List (Nat × Nat × Nat × Nat)} (h : Cond.codeWith y b L r hh ∈ lw_all) : GoodIn lw_all (wsW_ y b L r hh) := by
  intro w hw
  rcases List.mem_cons.mp hw with e | e
  · rw [e]
    exact lw_self _ h
  · exact lw_self _ e
/-- any list of words by their places (lw_in), good -/
theorem lw_good {ws : List Cond} (h : ∀ w ∈ ws, w ∈ lw_all) : GoodIn lw_all ws := fun w hw => lw_self w (h w hw)
/-- what a call of a method with handlers asks: vx_cwVW n hts (lw_VW ..), vx_cwSW n hts (lw_SW ..) -/
theorem lw_VW {own : String} {idx : Nat} {C : String} {y : MethodName} {b : ByteArray} {L : Nat} {r : Option FieldType} {hh : List (Nat × Nat × Nat × Nat)} (h1 : Cond.methodLink own idx y ∈ lw_all) (h2 : Cond.instanceMethod y ∈ lw_all) (h3 : Cond.selects C y y ∈ lw_all) (h4 : Cond.initialized C ∈ lw_all) (h5 : Cond.codeWith y b L r hh ∈ lw_all) : GoodIn lw_all (wsV own idx C y (wsW_ y b L r hh)) := by
  refine lw_app ?_ (lw_methW h5)
  intro w hw
  simp only [List.mem_cons, List.not_mem_nil, or_false] at hw
  rcases hw with e | e | e | e
  · rw [e]; exact h1
  · rw [e]; exact h2
  · rw [e]; exact h3
  · rw [e]; exact h4
theorem lw_SW {own : String} {idx : Nat} {y : MethodName} {b : ByteArray} {L : Nat} {r : Option FieldType} {hh : List (Nat × Nat × Nat × Nat)} (h1 : Cond.methodLink own idx y ∈ lw_all) (h2 : Cond.static y ∈ lw_all) (h3 : Cond.initialized y.cls ∈ lw_all) (h4 : Cond.codeWith y b L r hh ∈ lw_all) : GoodIn lw_all (va_wsS own idx y (wsW_ y b L r hh)) := by
  refine lw_app ?_ (lw_methW h4)
  intro w hw
  simp only [List.mem_cons, List.not_mem_nil, or_false] at hw
  rcases hw with e | e | e
  · rw [e]; exact h1
  · rw [e]; exact h2
  · rw [e]; exact h3
/-- a word by its place in its run of the tables -/
theorem lw_at {r : List Cond} (hr : ∀ w ∈ r, w ∈ lw_tbl) {w : Cond} (i : Nat) (h : r[i]? = some w) : w ∈ lw_tbl := hr w (List.mem_of_getElem? h)
theorem lw_g {w : Cond} (h : w ∈ lw_tbl) (g : goodWord w = true) : w ∈ lw_all := List.mem_filter.mpr ⟨h, g⟩
theorem lw_ms : ∀ w ∈ k2_sels lw_privs, w ∈ lw_tbl := fun w h => show w ∈ k2_sels lw_privs ++ tables_1 from List.mem_append_left _ h
theorem lw_m1 : ∀ w ∈ tables_1_1, w ∈ lw_tbl := fun w h => show w ∈ k2_sels lw_privs ++ tables_1 from List.mem_append_right (k2_sels lw_privs) (show w ∈ tables_1 from List.mem_append_left _ h)
theorem lw_m2 : ∀ w ∈ tables_1_2, w ∈ lw_tbl := fun w h => show w ∈ k2_sels lw_privs ++ tables_1 from List.mem_append_right (k2_sels lw_privs) (show w ∈ tables_1 from List.mem_append_right _ h)
theorem qs0 : (Cond.selects "LexTables" ⟨"LexTables", "emptyTable", "()V"⟩ ⟨"LexTables", "emptyTable", "()V"⟩) ∈ lw_all := lw_g (lw_at lw_ms 0 rfl) rfl
theorem qs1 : (Cond.selects "LexTables" ⟨"LexTables", "pushPlace", "(I)V"⟩ ⟨"LexTables", "pushPlace", "(I)V"⟩) ∈ lw_all := lw_g (lw_at lw_ms 1 rfl) rfl
theorem qs2 : (Cond.selects "LexTables" ⟨"LexTables", "push", "(JJZ)V"⟩ ⟨"LexTables", "push", "(JJZ)V"⟩) ∈ lw_all := lw_g (lw_at lw_ms 2 rfl) rfl
theorem qs3 : (Cond.selects "LexTables" ⟨"LexTables", "joinTwo", "()V"⟩ ⟨"LexTables", "joinTwo", "()V"⟩) ∈ lw_all := lw_g (lw_at lw_ms 3 rfl) rfl
theorem qs4 : (Cond.selects "LexTables" ⟨"LexTables", "lead", "(JJ)V"⟩ ⟨"LexTables", "lead", "(JJ)V"⟩) ∈ lw_all := lw_g (lw_at lw_ms 4 rfl) rfl
theorem qs5 : (Cond.selects "LexTables" ⟨"LexTables", "makeRule", "()V"⟩ ⟨"LexTables", "makeRule", "()V"⟩) ∈ lw_all := lw_g (lw_at lw_ms 5 rfl) rfl
theorem qs6 : (Cond.selects "LexTables" ⟨"LexTables", "cut", "()V"⟩ ⟨"LexTables", "cut", "()V"⟩) ∈ lw_all := lw_g (lw_at lw_ms 6 rfl) rfl
theorem qs7 : (Cond.selects "LexTables" ⟨"LexTables", "cutWord", "(I)V"⟩ ⟨"LexTables", "cutWord", "(I)V"⟩) ∈ lw_all := lw_g (lw_at lw_ms 7 rfl) rfl
theorem qs8 : (Cond.selects "LexTables" ⟨"LexTables", "step", "(II)I"⟩ ⟨"LexTables", "step", "(II)I"⟩) ∈ lw_all := lw_g (lw_at lw_ms 8 rfl) rfl
theorem qs9 : (Cond.selects "LexTables" ⟨"LexTables", "allFirst", "()J"⟩ ⟨"LexTables", "allFirst", "()J"⟩) ∈ lw_all := lw_g (lw_at lw_ms 9 rfl) rfl
theorem qs10 : (Cond.selects "LexTables" ⟨"LexTables", "following", "(J)J"⟩ ⟨"LexTables", "following", "(J)J"⟩) ∈ lw_all := lw_g (lw_at lw_ms 10 rfl) rfl
theorem qs11 : (Cond.selects "LexTables" ⟨"LexTables", "advance", "(JI)J"⟩ ⟨"LexTables", "advance", "(JI)J"⟩) ∈ lw_all := lw_g (lw_at lw_ms 11 rfl) rfl
theorem qs12 : (Cond.selects "LexTables" ⟨"LexTables", "findState", "(J)I"⟩ ⟨"LexTables", "findState", "(J)I"⟩) ∈ lw_all := lw_g (lw_at lw_ms 12 rfl) rfl
theorem qs13 : (Cond.selects "LexTables" ⟨"LexTables", "makeState", "(J)I"⟩ ⟨"LexTables", "makeState", "(J)I"⟩) ∈ lw_all := lw_g (lw_at lw_ms 13 rfl) rfl
theorem qs14 : (Cond.selects "LexTablesModel" ⟨"LexTablesModel", "workText", "()V"⟩ ⟨"LexTablesModel", "workText", "()V"⟩) ∈ lw_all := lw_g (lw_at lw_ms 14 rfl) rfl
theorem qs15 : (Cond.selects "LexTablesModel" ⟨"LexTablesModel", "work", "()V"⟩ ⟨"LexTablesModel", "work", "()V"⟩) ∈ lw_all := lw_g (lw_at lw_ms 15 rfl) rfl
theorem qs16 : (Cond.selects "LexTablesModel" ⟨"LexTablesModel", "matched", "(III)Z"⟩ ⟨"LexTablesModel", "matched", "(III)Z"⟩) ∈ lw_all := lw_g (lw_at lw_ms 16 rfl) rfl
theorem qs17 : (Cond.selects "LexTablesModel" ⟨"LexTablesModel", "both", "(IIIII)Z"⟩ ⟨"LexTablesModel", "both", "(IIIII)Z"⟩) ∈ lw_all := lw_g (lw_at lw_ms 17 rfl) rfl
theorem qs18 : (Cond.selects "LexTablesModel" ⟨"LexTablesModel", "is", "(III)Z"⟩ ⟨"LexTablesModel", "is", "(III)Z"⟩) ∈ lw_all := lw_g (lw_at lw_ms 18 rfl) rfl
theorem qs19 : (Cond.selects "LexTablesModel" ⟨"LexTablesModel", "end", "(I)I"⟩ ⟨"LexTablesModel", "end", "(I)I"⟩) ∈ lw_all := lw_g (lw_at lw_ms 19 rfl) rfl
theorem qs20 : (Cond.selects "LexTablesModel" ⟨"LexTablesModel", "least", "(II)I"⟩ ⟨"LexTablesModel", "least", "(II)I"⟩) ∈ lw_all := lw_g (lw_at lw_ms 20 rfl) rfl
theorem qs21 : (Cond.selects "LexTablesModel" ⟨"LexTablesModel", "begin", "(I)I"⟩ ⟨"LexTablesModel", "begin", "(I)I"⟩) ∈ lw_all := lw_g (lw_at lw_ms 21 rfl) rfl
end
section
set_option maxRecDepth 100000
/-! LexTables -/
def RX0 : String := "LexTables"
def TX0 : u_T := fun k => match k with
  | 0 => ("LexTables", "tokens", "I", false)
  | 1 => ("LexTables", "places", "I", false)
  | 2 => ("LexTables", "follow", "[J", true)
  | 3 => ("LexTables", "letterPlaces", "[J", true)
  | 4 => ("LexTables", "stackSize", "I", false)
  | 5 => ("LexTables", "first", "[J", true)
  | 6 => ("LexTables", "last", "[J", true)
  | 7 => ("LexTables", "mayBeEmpty", "[Z", true)
  | 8 => ("LexTables", "rules", "I", false)
  | 9 => ("LexTables", "ruleFirst", "[J", true)
  | 10 => ("LexTables", "ruleLast", "[J", true)
  | 11 => ("LexTables", "ruleEmpty", "[Z", true)
  | 12 => ("LexTables", "states", "I", false)
  | 13 => ("LexTables", "stateSet", "[J", true)
  | 14 => ("LexTables", "next", "[I", true)
  | 15 => ("LexTables", "ends", "[I", true)
  | 16 => ("LexTables", "textLength", "I", false)
  | 17 => ("LexTables", "text", "[I", true)
  | 18 => ("LexTables", "wordCount", "I", false)
  | 19 => ("LexTables", "wordSort", "[I", true)
  | _ => ("LexTables", "wordLength", "[I", true)
def tyX0 : Nat → FieldType := fun k => match k with
  | 0 => .int
  | 1 => .int
  | 2 => .array .long
  | 3 => .array .long
  | 4 => .int
  | 5 => .array .long
  | 6 => .array .long
  | 7 => .array .boolean
  | 8 => .int
  | 9 => .array .long
  | 10 => .array .long
  | 11 => .array .boolean
  | 12 => .int
  | 13 => .array .long
  | 14 => .array .int
  | 15 => .array .int
  | 16 => .int
  | 17 => .array .int
  | 18 => .int
  | 19 => .array .int
  | _ => .array .int
abbrev wsX00 : List Cond := u_ws RX0 TX0 21
set_option maxRecDepth 100000 in
theorem nmX0 : ∀ a, a < 21 → ∀ b, b < 21 → a ≠ b → (TX0 a).2.1 ≠ (TX0 b).2.1 := by decide +kernel
set_option maxRecDepth 100000 in
theorem tyX0_ok : ∀ k, k < 21 → parseFieldDescriptor (TX0 k).2.2.1 = some (tyX0 k) := by decide +kernel
abbrev cX0_init : ByteArray := prog_1_method_1_code
def yX0_init : MethodName := ⟨RX0, "<init>", "()V"⟩
abbrev cX0_emptyTable : ByteArray := prog_1_method_19_code
def yX0_emptyTable : MethodName := ⟨RX0, "emptyTable", "()V"⟩
abbrev cX0_token : ByteArray := prog_1_method_2_code
def yX0_token : MethodName := ⟨RX0, "token", "(II)I"⟩
abbrev cX0_pushPlace : ByteArray := prog_1_method_4_code
def yX0_pushPlace : MethodName := ⟨RX0, "pushPlace", "(I)V"⟩
abbrev cX0_push : ByteArray := prog_1_method_5_code
def yX0_push : MethodName := ⟨RX0, "push", "(JJZ)V"⟩
abbrev cX0_joinTwo : ByteArray := prog_1_method_6_code
def yX0_joinTwo : MethodName := ⟨RX0, "joinTwo", "()V"⟩
abbrev cX0_lead : ByteArray := prog_1_method_7_code
def yX0_lead : MethodName := ⟨RX0, "lead", "(JJ)V"⟩
abbrev cX0_makeRule : ByteArray := prog_1_method_8_code
def yX0_makeRule : MethodName := ⟨RX0, "makeRule", "()V"⟩
abbrev cX0_clear : ByteArray := prog_1_method_3_code
def yX0_clear : MethodName := ⟨RX0, "clear", "()V"⟩
abbrev cX0_type : ByteArray := prog_1_method_9_code
def yX0_type : MethodName := ⟨RX0, "type", "(I)I"⟩
abbrev cX0_erase : ByteArray := prog_1_method_10_code
def yX0_erase : MethodName := ⟨RX0, "erase", "()V"⟩
abbrev cX0_words : ByteArray := prog_1_method_11_code
def yX0_words : MethodName := ⟨RX0, "words", "()I"⟩
abbrev cX0_cut : ByteArray := prog_1_method_24_code
def yX0_cut : MethodName := ⟨RX0, "cut", "()V"⟩
abbrev cX0_cutWord : ByteArray := prog_1_method_25_code
def yX0_cutWord : MethodName := ⟨RX0, "cutWord", "(I)V"⟩
abbrev cX0_step : ByteArray := prog_1_method_20_code
def yX0_step : MethodName := ⟨RX0, "step", "(II)I"⟩
abbrev cX0_allFirst : ByteArray := prog_1_method_21_code
def yX0_allFirst : MethodName := ⟨RX0, "allFirst", "()J"⟩
abbrev cX0_following : ByteArray := prog_1_method_17_code
def yX0_following : MethodName := ⟨RX0, "following", "(J)J"⟩
abbrev cX0_advance : ByteArray := prog_1_method_18_code
def yX0_advance : MethodName := ⟨RX0, "advance", "(JI)J"⟩
abbrev cX0_findState : ByteArray := prog_1_method_22_code
def yX0_findState : MethodName := ⟨RX0, "findState", "(J)I"⟩
abbrev cX0_makeState : ByteArray := prog_1_method_23_code
def yX0_makeState : MethodName := ⟨RX0, "makeState", "(J)I"⟩
abbrev cX0_sort : ByteArray := prog_1_method_12_code
def yX0_sort : MethodName := ⟨RX0, "sort", "(I)I"⟩
abbrev cX0_length : ByteArray := prog_1_method_13_code
def yX0_length : MethodName := ⟨RX0, "length", "(I)I"⟩
abbrev cX0_matches : ByteArray := prog_1_method_14_code
def yX0_matches : MethodName := ⟨RX0, "matches", "(I)I"⟩
abbrev cX0_count : ByteArray := prog_1_method_15_code
def yX0_count : MethodName := ⟨RX0, "count", "(II)I"⟩
abbrev cX0_sortOf : ByteArray := prog_1_method_16_code
def yX0_sortOf : MethodName := ⟨RX0, "sortOf", "(II)I"⟩
/-! LexTablesModel -/
def RX1 : String := "LexTablesModel"
def TX1 : u_T := fun k => match k with
  | 0 => ("LexTablesModel", "tokens", "I", false)
  | 1 => ("LexTablesModel", "codes", "[I", true)
  | 2 => ("LexTablesModel", "args", "[I", true)
  | 3 => ("LexTablesModel", "lefts", "[I", true)
  | 4 => ("LexTablesModel", "rights", "[I", true)
  | 5 => ("LexTablesModel", "height", "I", false)
  | 6 => ("LexTablesModel", "stack", "[I", true)
  | 7 => ("LexTablesModel", "rules", "I", false)
  | 8 => ("LexTablesModel", "ruleOf", "[I", true)
  | 9 => ("LexTablesModel", "letters", "I", false)
  | 10 => ("LexTablesModel", "text", "[I", true)
  | 11 => ("LexTablesModel", "size", "I", false)
  | 12 => ("LexTablesModel", "row", "[I", true)
  | _ => ("LexTablesModel", "fits", "[Z", true)
def tyX1 : Nat → FieldType := fun k => match k with
  | 0 => .int
  | 1 => .array .int
  | 2 => .array .int
  | 3 => .array .int
  | 4 => .array .int
  | 5 => .int
  | 6 => .array .int
  | 7 => .int
  | 8 => .array .int
  | 9 => .int
  | 10 => .array .int
  | 11 => .int
  | 12 => .array .int
  | _ => .array .boolean
abbrev wsX10 : List Cond := u_ws RX1 TX1 14
set_option maxRecDepth 100000 in
theorem nmX1 : ∀ a, a < 14 → ∀ b, b < 14 → a ≠ b → (TX1 a).2.1 ≠ (TX1 b).2.1 := by decide +kernel
set_option maxRecDepth 100000 in
theorem tyX1_ok : ∀ k, k < 14 → parseFieldDescriptor (TX1 k).2.2.1 = some (tyX1 k) := by decide +kernel
abbrev cX1_init : ByteArray := prog_3_method_1_code
def yX1_init : MethodName := ⟨RX1, "<init>", "()V"⟩
abbrev cX1_token : ByteArray := prog_3_method_3_code
def yX1_token : MethodName := ⟨RX1, "token", "(II)I"⟩
abbrev cX1_takes : ByteArray := prog_3_method_2_code
def yX1_takes : MethodName := ⟨RX1, "takes", "(I)I"⟩
abbrev cX1_clear : ByteArray := prog_3_method_4_code
def yX1_clear : MethodName := ⟨RX1, "clear", "()V"⟩
abbrev cX1_type : ByteArray := prog_3_method_5_code
def yX1_type : MethodName := ⟨RX1, "type", "(I)I"⟩
abbrev cX1_erase : ByteArray := prog_3_method_6_code
def yX1_erase : MethodName := ⟨RX1, "erase", "()V"⟩
abbrev cX1_words : ByteArray := prog_3_method_14_code
def yX1_words : MethodName := ⟨RX1, "words", "()I"⟩
abbrev cX1_workText : ByteArray := prog_3_method_11_code
def yX1_workText : MethodName := ⟨RX1, "workText", "()V"⟩
abbrev cX1_work : ByteArray := prog_3_method_10_code
def yX1_work : MethodName := ⟨RX1, "work", "()V"⟩
abbrev cX1_matched : ByteArray := prog_3_method_9_code
def yX1_matched : MethodName := ⟨RX1, "matched", "(III)Z"⟩
abbrev cX1_both : ByteArray := prog_3_method_8_code
def yX1_both : MethodName := ⟨RX1, "both", "(IIIII)Z"⟩
abbrev cX1_is : ByteArray := prog_3_method_7_code
def yX1_is : MethodName := ⟨RX1, "is", "(III)Z"⟩
abbrev cX1_end : ByteArray := prog_3_method_13_code
def yX1_end : MethodName := ⟨RX1, "end", "(I)I"⟩
abbrev cX1_least : ByteArray := prog_3_method_12_code
def yX1_least : MethodName := ⟨RX1, "least", "(II)I"⟩
abbrev cX1_sort : ByteArray := prog_3_method_16_code
def yX1_sort : MethodName := ⟨RX1, "sort", "(I)I"⟩
abbrev cX1_begin : ByteArray := prog_3_method_15_code
def yX1_begin : MethodName := ⟨RX1, "begin", "(I)I"⟩
abbrev cX1_length : ByteArray := prog_3_method_17_code
def yX1_length : MethodName := ⟨RX1, "length", "(I)I"⟩
abbrev cX1_matches : ByteArray := prog_3_method_18_code
def yX1_matches : MethodName := ⟨RX1, "matches", "(I)I"⟩
abbrev cX1_count : ByteArray := prog_3_method_19_code
def yX1_count : MethodName := ⟨RX1, "count", "(II)I"⟩
abbrev cX1_sortOf : ByteArray := prog_3_method_20_code
def yX1_sortOf : MethodName := ⟨RX1, "sortOf", "(II)I"⟩
abbrev vwCl : List vw_C := [(RX0, TX0, 21), (RX1, TX1, 14)]
/-! java/lang/Object -/
def RJ0 : String := "java/lang/Object"
abbrev cJ0_init : ByteArray := object_method_1_code
def yJ0_init : MethodName := ⟨RJ0, "<init>", "()V"⟩
theorem dJ0_init_0 : decode cJ0_init 0 = .ok (.return_, 1) := by decide +kernel
theorem q31 : (Jvm.Cond.instanceMethod ({ cls := "java/lang/Object", name := "<init>", desc := "()V" } : Jvm.MethodName)) ∈ lw_all := lw_g (lw_at lw_m1 9 rfl) rfl
theorem q32 : (Jvm.Cond.code ({ cls := "java/lang/Object", name := "<init>", desc := "()V" } : Jvm.MethodName) object_method_1_code (1 : Nat) (Option.none : Option Jvm.ClassFile.FieldType)) ∈ lw_all := lw_g (lw_at lw_m1 10 rfl) rfl
theorem q23 : (Jvm.Cond.initialized "LexTables") ∈ lw_all := lw_g (lw_at lw_m1 1 rfl) rfl
theorem q26 : (Jvm.Cond.instantiable "LexTables" (21 : Nat)) ∈ lw_all := lw_g (lw_at lw_m1 4 rfl) rfl
theorem q28 : (Jvm.Cond.instanceMethod ({ cls := "LexTables", name := "<init>", desc := "()V" } : Jvm.MethodName)) ∈ lw_all := lw_g (lw_at lw_m1 6 rfl) rfl
theorem q29 : (Jvm.Cond.code ({ cls := "LexTables", name := "<init>", desc := "()V" } : Jvm.MethodName) prog_1_method_1_code (1 : Nat) (Option.none : Option Jvm.ClassFile.FieldType)) ∈ lw_all := lw_g (lw_at lw_m1 7 rfl) rfl
theorem q30 : (Jvm.Cond.methodLink "LexTables" (1 : Nat) ({ cls := "java/lang/Object", name := "<init>", desc := "()V" } : Jvm.MethodName)) ∈ lw_all := lw_g (lw_at lw_m1 8 rfl) rfl
theorem q33 : (Jvm.Cond.methodLink "LexTables" (54 : Nat) ({ cls := "LexTables", name := "emptyTable", desc := "()V" } : Jvm.MethodName)) ∈ lw_all := lw_g (lw_at lw_m1 11 rfl) rfl
theorem q34 : (Jvm.Cond.privateMethod ({ cls := "LexTables", name := "emptyTable", desc := "()V" } : Jvm.MethodName)) ∈ lw_tbl := lw_at lw_m1 12 rfl
theorem q35 : (Jvm.Cond.instanceMethod ({ cls := "LexTables", name := "emptyTable", desc := "()V" } : Jvm.MethodName)) ∈ lw_all := lw_g (lw_at lw_m1 13 rfl) rfl
theorem q36 : (Jvm.Cond.code ({ cls := "LexTables", name := "emptyTable", desc := "()V" } : Jvm.MethodName) prog_1_method_19_code (2 : Nat) (Option.none : Option Jvm.ClassFile.FieldType)) ∈ lw_all := lw_g (lw_at lw_m1 14 rfl) rfl
theorem q37 : (Jvm.Cond.fieldLink "LexTables" (61 : Nat) "LexTables" "tokens" "I") ∈ lw_all := lw_g (lw_at lw_m1 15 rfl) rfl
theorem q38 : (Jvm.Cond.fieldLink "LexTables" (85 : Nat) "LexTables" "places" "I") ∈ lw_all := lw_g (lw_at lw_m1 16 rfl) rfl
theorem q39 : (Jvm.Cond.fieldLink "LexTables" (7 : Nat) "LexTables" "follow" "[J") ∈ lw_all := lw_g (lw_at lw_m1 17 rfl) rfl
theorem q40 : (Jvm.Cond.fieldLink "LexTables" (13 : Nat) "LexTables" "letterPlaces" "[J") ∈ lw_all := lw_g (lw_at lw_m1 18 rfl) rfl
theorem q41 : (Jvm.Cond.fieldLink "LexTables" (57 : Nat) "LexTables" "stackSize" "I") ∈ lw_all := lw_g (lw_at lw_m1 19 rfl) rfl
theorem q42 : (Jvm.Cond.fieldLink "LexTables" (16 : Nat) "LexTables" "first" "[J") ∈ lw_all := lw_g (lw_at lw_m1 20 rfl) rfl
theorem q43 : (Jvm.Cond.fieldLink "LexTables" (19 : Nat) "LexTables" "last" "[J") ∈ lw_all := lw_g (lw_at lw_m1 21 rfl) rfl
theorem q44 : (Jvm.Cond.fieldLink "LexTables" (22 : Nat) "LexTables" "mayBeEmpty" "[Z") ∈ lw_all := lw_g (lw_at lw_m1 22 rfl) rfl
theorem q45 : (Jvm.Cond.fieldLink "LexTables" (64 : Nat) "LexTables" "rules" "I") ∈ lw_all := lw_g (lw_at lw_m1 23 rfl) rfl
theorem q46 : (Jvm.Cond.fieldLink "LexTables" (26 : Nat) "LexTables" "ruleFirst" "[J") ∈ lw_all := lw_g (lw_at lw_m1 24 rfl) rfl
theorem q47 : (Jvm.Cond.fieldLink "LexTables" (29 : Nat) "LexTables" "ruleLast" "[J") ∈ lw_all := lw_g (lw_at lw_m1 25 rfl) rfl
theorem q48 : (Jvm.Cond.fieldLink "LexTables" (32 : Nat) "LexTables" "ruleEmpty" "[Z") ∈ lw_all := lw_g (lw_at lw_m1 26 rfl) rfl
theorem q49 : (Jvm.Cond.fieldLink "LexTables" (109 : Nat) "LexTables" "states" "I") ∈ lw_all := lw_g (lw_at lw_m1 27 rfl) rfl
theorem q50 : (Jvm.Cond.fieldLink "LexTables" (35 : Nat) "LexTables" "stateSet" "[J") ∈ lw_all := lw_g (lw_at lw_m1 28 rfl) rfl
theorem q51 : (Jvm.Cond.fieldLink "LexTables" (38 : Nat) "LexTables" "next" "[I") ∈ lw_all := lw_g (lw_at lw_m1 29 rfl) rfl
theorem q52 : (Jvm.Cond.fieldLink "LexTables" (42 : Nat) "LexTables" "ends" "[I") ∈ lw_all := lw_g (lw_at lw_m1 30 rfl) rfl
theorem q53 : (Jvm.Cond.fieldLink "LexTables" (88 : Nat) "LexTables" "textLength" "I") ∈ lw_all := lw_g (lw_at lw_m1 31 rfl) rfl
theorem q54 : (Jvm.Cond.fieldLink "LexTables" (45 : Nat) "LexTables" "text" "[I") ∈ lw_all := lw_g (lw_at lw_m1 32 rfl) rfl
theorem q55 : (Jvm.Cond.fieldLink "LexTables" (94 : Nat) "LexTables" "wordCount" "I") ∈ lw_all := lw_g (lw_at lw_m1 33 rfl) rfl
theorem q56 : (Jvm.Cond.fieldLink "LexTables" (48 : Nat) "LexTables" "wordSort" "[I") ∈ lw_all := lw_g (lw_at lw_m1 34 rfl) rfl
theorem q57 : (Jvm.Cond.fieldLink "LexTables" (51 : Nat) "LexTables" "wordLength" "[I") ∈ lw_all := lw_g (lw_at lw_m1 35 rfl) rfl
theorem q58 : (Jvm.Cond.lays "LexTables" "LexTables" "tokens" "I") ∈ lw_all := lw_g (lw_at lw_m1 36 rfl) rfl
theorem q59 : (Jvm.Cond.soleField "LexTables" "tokens") ∈ lw_all := lw_g (lw_at lw_m1 37 rfl) rfl
theorem q60 : (Jvm.Cond.lays "LexTables" "LexTables" "places" "I") ∈ lw_all := lw_g (lw_at lw_m1 38 rfl) rfl
theorem q61 : (Jvm.Cond.soleField "LexTables" "places") ∈ lw_all := lw_g (lw_at lw_m1 39 rfl) rfl
theorem q62 : (Jvm.Cond.laysFinal "LexTables" "LexTables" "follow" "[J") ∈ lw_all := lw_g (lw_at lw_m1 40 rfl) rfl
theorem q63 : (Jvm.Cond.soleField "LexTables" "follow") ∈ lw_all := lw_g (lw_at lw_m1 41 rfl) rfl
theorem q64 : (Jvm.Cond.laysFinal "LexTables" "LexTables" "letterPlaces" "[J") ∈ lw_all := lw_g (lw_at lw_m1 42 rfl) rfl
theorem q65 : (Jvm.Cond.soleField "LexTables" "letterPlaces") ∈ lw_all := lw_g (lw_at lw_m1 43 rfl) rfl
theorem q66 : (Jvm.Cond.lays "LexTables" "LexTables" "stackSize" "I") ∈ lw_all := lw_g (lw_at lw_m1 44 rfl) rfl
theorem q67 : (Jvm.Cond.soleField "LexTables" "stackSize") ∈ lw_all := lw_g (lw_at lw_m1 45 rfl) rfl
theorem q68 : (Jvm.Cond.laysFinal "LexTables" "LexTables" "first" "[J") ∈ lw_all := lw_g (lw_at lw_m1 46 rfl) rfl
theorem q69 : (Jvm.Cond.soleField "LexTables" "first") ∈ lw_all := lw_g (lw_at lw_m1 47 rfl) rfl
theorem q70 : (Jvm.Cond.laysFinal "LexTables" "LexTables" "last" "[J") ∈ lw_all := lw_g (lw_at lw_m1 48 rfl) rfl
theorem q71 : (Jvm.Cond.soleField "LexTables" "last") ∈ lw_all := lw_g (lw_at lw_m1 49 rfl) rfl
theorem q72 : (Jvm.Cond.laysFinal "LexTables" "LexTables" "mayBeEmpty" "[Z") ∈ lw_all := lw_g (lw_at lw_m1 50 rfl) rfl
theorem q73 : (Jvm.Cond.soleField "LexTables" "mayBeEmpty") ∈ lw_all := lw_g (lw_at lw_m1 51 rfl) rfl
theorem q74 : (Jvm.Cond.lays "LexTables" "LexTables" "rules" "I") ∈ lw_all := lw_g (lw_at lw_m1 52 rfl) rfl
theorem q75 : (Jvm.Cond.soleField "LexTables" "rules") ∈ lw_all := lw_g (lw_at lw_m1 53 rfl) rfl
theorem q76 : (Jvm.Cond.laysFinal "LexTables" "LexTables" "ruleFirst" "[J") ∈ lw_all := lw_g (lw_at lw_m1 54 rfl) rfl
theorem q77 : (Jvm.Cond.soleField "LexTables" "ruleFirst") ∈ lw_all := lw_g (lw_at lw_m1 55 rfl) rfl
theorem q78 : (Jvm.Cond.laysFinal "LexTables" "LexTables" "ruleLast" "[J") ∈ lw_all := lw_g (lw_at lw_m1 56 rfl) rfl
theorem q79 : (Jvm.Cond.soleField "LexTables" "ruleLast") ∈ lw_all := lw_g (lw_at lw_m1 57 rfl) rfl
theorem q80 : (Jvm.Cond.laysFinal "LexTables" "LexTables" "ruleEmpty" "[Z") ∈ lw_all := lw_g (lw_at lw_m1 58 rfl) rfl
theorem q81 : (Jvm.Cond.soleField "LexTables" "ruleEmpty") ∈ lw_all := lw_g (lw_at lw_m1 59 rfl) rfl
theorem q82 : (Jvm.Cond.lays "LexTables" "LexTables" "states" "I") ∈ lw_all := lw_g (lw_at lw_m1 60 rfl) rfl
theorem q83 : (Jvm.Cond.soleField "LexTables" "states") ∈ lw_all := lw_g (lw_at lw_m1 61 rfl) rfl
theorem q84 : (Jvm.Cond.laysFinal "LexTables" "LexTables" "stateSet" "[J") ∈ lw_all := lw_g (lw_at lw_m1 62 rfl) rfl
theorem q85 : (Jvm.Cond.soleField "LexTables" "stateSet") ∈ lw_all := lw_g (lw_at lw_m1 63 rfl) rfl
theorem q86 : (Jvm.Cond.laysFinal "LexTables" "LexTables" "next" "[I") ∈ lw_all := lw_g (lw_at lw_m1 64 rfl) rfl
theorem q87 : (Jvm.Cond.soleField "LexTables" "next") ∈ lw_all := lw_g (lw_at lw_m1 65 rfl) rfl
theorem q88 : (Jvm.Cond.laysFinal "LexTables" "LexTables" "ends" "[I") ∈ lw_all := lw_g (lw_at lw_m1 66 rfl) rfl
theorem q89 : (Jvm.Cond.soleField "LexTables" "ends") ∈ lw_all := lw_g (lw_at lw_m1 67 rfl) rfl
theorem q90 : (Jvm.Cond.lays "LexTables" "LexTables" "textLength" "I") ∈ lw_all := lw_g (lw_at lw_m1 68 rfl) rfl
theorem q91 : (Jvm.Cond.soleField "LexTables" "textLength") ∈ lw_all := lw_g (lw_at lw_m1 69 rfl) rfl
theorem q92 : (Jvm.Cond.laysFinal "LexTables" "LexTables" "text" "[I") ∈ lw_all := lw_g (lw_at lw_m1 70 rfl) rfl
theorem q93 : (Jvm.Cond.soleField "LexTables" "text") ∈ lw_all := lw_g (lw_at lw_m1 71 rfl) rfl
theorem q94 : (Jvm.Cond.lays "LexTables" "LexTables" "wordCount" "I") ∈ lw_all := lw_g (lw_at lw_m1 72 rfl) rfl
theorem q95 : (Jvm.Cond.soleField "LexTables" "wordCount") ∈ lw_all := lw_g (lw_at lw_m1 73 rfl) rfl
theorem q96 : (Jvm.Cond.laysFinal "LexTables" "LexTables" "wordSort" "[I") ∈ lw_all := lw_g (lw_at lw_m1 74 rfl) rfl
theorem q97 : (Jvm.Cond.soleField "LexTables" "wordSort") ∈ lw_all := lw_g (lw_at lw_m1 75 rfl) rfl
theorem q98 : (Jvm.Cond.laysFinal "LexTables" "LexTables" "wordLength" "[I") ∈ lw_all := lw_g (lw_at lw_m1 76 rfl) rfl
theorem q99 : (Jvm.Cond.soleField "LexTables" "wordLength") ∈ lw_all := lw_g (lw_at lw_m1 77 rfl) rfl
theorem q100 : (Jvm.Cond.superclass "LexTables" "java/lang/Object") ∈ lw_all := lw_g (lw_at lw_m1 78 rfl) rfl
theorem q105 : (Jvm.Cond.instanceMethod ({ cls := "LexTables", name := "token", desc := "(II)I" } : Jvm.MethodName)) ∈ lw_all := lw_g (lw_at lw_m1 83 rfl) rfl
theorem q106 : (Jvm.Cond.selects "LexTables" ({ cls := "LexTables", name := "token", desc := "(II)I" } : Jvm.MethodName) ({ cls := "LexTables", name := "token", desc := "(II)I" } : Jvm.MethodName)) ∈ lw_all := lw_g (lw_at lw_m1 84 rfl) rfl
theorem q107 : (Jvm.Cond.code ({ cls := "LexTables", name := "token", desc := "(II)I" } : Jvm.MethodName) prog_1_method_2_code (5 : Nat) (Option.some Jvm.ClassFile.FieldType.int)) ∈ lw_all := lw_g (lw_at lw_m1 85 rfl) rfl
theorem q108 : (Jvm.Cond.methodLink "LexTables" (67 : Nat) ({ cls := "LexTables", name := "pushPlace", desc := "(I)V" } : Jvm.MethodName)) ∈ lw_all := lw_g (lw_at lw_m1 86 rfl) rfl
theorem q109 : (Jvm.Cond.privateMethod ({ cls := "LexTables", name := "pushPlace", desc := "(I)V" } : Jvm.MethodName)) ∈ lw_tbl := lw_at lw_m1 87 rfl
theorem q110 : (Jvm.Cond.instanceMethod ({ cls := "LexTables", name := "pushPlace", desc := "(I)V" } : Jvm.MethodName)) ∈ lw_all := lw_g (lw_at lw_m1 88 rfl) rfl
theorem q111 : (Jvm.Cond.code ({ cls := "LexTables", name := "pushPlace", desc := "(I)V" } : Jvm.MethodName) prog_1_method_4_code (4 : Nat) (Option.none : Option Jvm.ClassFile.FieldType)) ∈ lw_all := lw_g (lw_at lw_m1 89 rfl) rfl
theorem q112 : (Jvm.Cond.methodLink "LexTables" (71 : Nat) ({ cls := "LexTables", name := "push", desc := "(JJZ)V" } : Jvm.MethodName)) ∈ lw_all := lw_g (lw_at lw_m1 90 rfl) rfl
theorem q113 : (Jvm.Cond.privateMethod ({ cls := "LexTables", name := "push", desc := "(JJZ)V" } : Jvm.MethodName)) ∈ lw_tbl := lw_at lw_m1 91 rfl
theorem q114 : (Jvm.Cond.instanceMethod ({ cls := "LexTables", name := "push", desc := "(JJZ)V" } : Jvm.MethodName)) ∈ lw_all := lw_g (lw_at lw_m1 92 rfl) rfl
theorem q115 : (Jvm.Cond.code ({ cls := "LexTables", name := "push", desc := "(JJZ)V" } : Jvm.MethodName) prog_1_method_5_code (6 : Nat) (Option.none : Option Jvm.ClassFile.FieldType)) ∈ lw_all := lw_g (lw_at lw_m1 93 rfl) rfl
theorem q116 : (Jvm.Cond.methodLink "LexTables" (75 : Nat) ({ cls := "LexTables", name := "joinTwo", desc := "()V" } : Jvm.MethodName)) ∈ lw_all := lw_g (lw_at lw_m1 94 rfl) rfl
theorem q117 : (Jvm.Cond.privateMethod ({ cls := "LexTables", name := "joinTwo", desc := "()V" } : Jvm.MethodName)) ∈ lw_tbl := lw_at lw_m1 95 rfl
theorem q118 : (Jvm.Cond.instanceMethod ({ cls := "LexTables", name := "joinTwo", desc := "()V" } : Jvm.MethodName)) ∈ lw_all := lw_g (lw_at lw_m1 96 rfl) rfl
theorem q119 : (Jvm.Cond.code ({ cls := "LexTables", name := "joinTwo", desc := "()V" } : Jvm.MethodName) prog_1_method_6_code (3 : Nat) (Option.none : Option Jvm.ClassFile.FieldType)) ∈ lw_all := lw_g (lw_at lw_m1 97 rfl) rfl
theorem q120 : (Jvm.Cond.methodLink "LexTables" (81 : Nat) ({ cls := "LexTables", name := "lead", desc := "(JJ)V" } : Jvm.MethodName)) ∈ lw_all := lw_g (lw_at lw_m1 98 rfl) rfl
theorem q121 : (Jvm.Cond.privateMethod ({ cls := "LexTables", name := "lead", desc := "(JJ)V" } : Jvm.MethodName)) ∈ lw_tbl := lw_at lw_m1 99 rfl
theorem q122 : (Jvm.Cond.instanceMethod ({ cls := "LexTables", name := "lead", desc := "(JJ)V" } : Jvm.MethodName)) ∈ lw_all := lw_g (lw_at lw_m1 100 rfl) rfl
theorem q123 : (Jvm.Cond.code ({ cls := "LexTables", name := "lead", desc := "(JJ)V" } : Jvm.MethodName) prog_1_method_7_code (6 : Nat) (Option.none : Option Jvm.ClassFile.FieldType)) ∈ lw_all := lw_g (lw_at lw_m1 101 rfl) rfl
theorem q124 : (Jvm.Cond.methodLink "LexTables" (78 : Nat) ({ cls := "LexTables", name := "makeRule", desc := "()V" } : Jvm.MethodName)) ∈ lw_all := lw_g (lw_at lw_m1 102 rfl) rfl
theorem q125 : (Jvm.Cond.privateMethod ({ cls := "LexTables", name := "makeRule", desc := "()V" } : Jvm.MethodName)) ∈ lw_tbl := lw_at lw_m1 103 rfl
theorem q126 : (Jvm.Cond.instanceMethod ({ cls := "LexTables", name := "makeRule", desc := "()V" } : Jvm.MethodName)) ∈ lw_all := lw_g (lw_at lw_m1 104 rfl) rfl
theorem q127 : (Jvm.Cond.code ({ cls := "LexTables", name := "makeRule", desc := "()V" } : Jvm.MethodName) prog_1_method_8_code (1 : Nat) (Option.none : Option Jvm.ClassFile.FieldType)) ∈ lw_all := lw_g (lw_at lw_m1 105 rfl) rfl
theorem q129 : (Jvm.Cond.instanceMethod ({ cls := "LexTables", name := "clear", desc := "()V" } : Jvm.MethodName)) ∈ lw_all := lw_g (lw_at lw_m1 107 rfl) rfl
theorem q130 : (Jvm.Cond.selects "LexTables" ({ cls := "LexTables", name := "clear", desc := "()V" } : Jvm.MethodName) ({ cls := "LexTables", name := "clear", desc := "()V" } : Jvm.MethodName)) ∈ lw_all := lw_g (lw_at lw_m1 108 rfl) rfl
theorem q131 : (Jvm.Cond.code ({ cls := "LexTables", name := "clear", desc := "()V" } : Jvm.MethodName) prog_1_method_3_code (2 : Nat) (Option.none : Option Jvm.ClassFile.FieldType)) ∈ lw_all := lw_g (lw_at lw_m1 109 rfl) rfl
theorem q133 : (Jvm.Cond.instanceMethod ({ cls := "LexTables", name := "type", desc := "(I)I" } : Jvm.MethodName)) ∈ lw_all := lw_g (lw_at lw_m1 111 rfl) rfl
theorem q134 : (Jvm.Cond.selects "LexTables" ({ cls := "LexTables", name := "type", desc := "(I)I" } : Jvm.MethodName) ({ cls := "LexTables", name := "type", desc := "(I)I" } : Jvm.MethodName)) ∈ lw_all := lw_g (lw_at lw_m1 112 rfl) rfl
theorem q135 : (Jvm.Cond.code ({ cls := "LexTables", name := "type", desc := "(I)I" } : Jvm.MethodName) prog_1_method_9_code (2 : Nat) (Option.some Jvm.ClassFile.FieldType.int)) ∈ lw_all := lw_g (lw_at lw_m1 113 rfl) rfl
theorem q137 : (Jvm.Cond.instanceMethod ({ cls := "LexTables", name := "erase", desc := "()V" } : Jvm.MethodName)) ∈ lw_all := lw_g (lw_at lw_m1 115 rfl) rfl
theorem q138 : (Jvm.Cond.selects "LexTables" ({ cls := "LexTables", name := "erase", desc := "()V" } : Jvm.MethodName) ({ cls := "LexTables", name := "erase", desc := "()V" } : Jvm.MethodName)) ∈ lw_all := lw_g (lw_at lw_m1 116 rfl) rfl
theorem q139 : (Jvm.Cond.code ({ cls := "LexTables", name := "erase", desc := "()V" } : Jvm.MethodName) prog_1_method_10_code (1 : Nat) (Option.none : Option Jvm.ClassFile.FieldType)) ∈ lw_all := lw_g (lw_at lw_m1 117 rfl) rfl
theorem q141 : (Jvm.Cond.instanceMethod ({ cls := "LexTables", name := "words", desc := "()I" } : Jvm.MethodName)) ∈ lw_all := lw_g (lw_at lw_m1 119 rfl) rfl
theorem q142 : (Jvm.Cond.selects "LexTables" ({ cls := "LexTables", name := "words", desc := "()I" } : Jvm.MethodName) ({ cls := "LexTables", name := "words", desc := "()I" } : Jvm.MethodName)) ∈ lw_all := lw_g (lw_at lw_m1 120 rfl) rfl
theorem q143 : (Jvm.Cond.code ({ cls := "LexTables", name := "words", desc := "()I" } : Jvm.MethodName) prog_1_method_11_code (1 : Nat) (Option.some Jvm.ClassFile.FieldType.int)) ∈ lw_all := lw_g (lw_at lw_m1 121 rfl) rfl
theorem q144 : (Jvm.Cond.methodLink "LexTables" (91 : Nat) ({ cls := "LexTables", name := "cut", desc := "()V" } : Jvm.MethodName)) ∈ lw_all := lw_g (lw_at lw_m1 122 rfl) rfl
theorem q145 : (Jvm.Cond.privateMethod ({ cls := "LexTables", name := "cut", desc := "()V" } : Jvm.MethodName)) ∈ lw_tbl := lw_at lw_m1 123 rfl
theorem q146 : (Jvm.Cond.instanceMethod ({ cls := "LexTables", name := "cut", desc := "()V" } : Jvm.MethodName)) ∈ lw_all := lw_g (lw_at lw_m1 124 rfl) rfl
theorem q147 : (Jvm.Cond.code ({ cls := "LexTables", name := "cut", desc := "()V" } : Jvm.MethodName) prog_1_method_24_code (3 : Nat) (Option.none : Option Jvm.ClassFile.FieldType)) ∈ lw_all := lw_g (lw_at lw_m1 125 rfl) rfl
theorem q148 : (Jvm.Cond.methodLink "LexTables" (123 : Nat) ({ cls := "LexTables", name := "cutWord", desc := "(I)V" } : Jvm.MethodName)) ∈ lw_all := lw_g (lw_at lw_m1 126 rfl) rfl
theorem q149 : (Jvm.Cond.privateMethod ({ cls := "LexTables", name := "cutWord", desc := "(I)V" } : Jvm.MethodName)) ∈ lw_tbl := lw_at lw_m1 127 rfl
theorem q150 : (Jvm.Cond.instanceMethod ({ cls := "LexTables", name := "cutWord", desc := "(I)V" } : Jvm.MethodName)) ∈ lw_all := lw_g (lw_at lw_m1 128 rfl) rfl
theorem q151 : (Jvm.Cond.code ({ cls := "LexTables", name := "cutWord", desc := "(I)V" } : Jvm.MethodName) prog_1_method_25_code (4 : Nat) (Option.none : Option Jvm.ClassFile.FieldType)) ∈ lw_all := lw_g (lw_at lw_m1 129 rfl) rfl
theorem q152 : (Jvm.Cond.methodLink "LexTables" (105 : Nat) ({ cls := "LexTables", name := "step", desc := "(II)I" } : Jvm.MethodName)) ∈ lw_all := lw_g (lw_at lw_m1 130 rfl) rfl
theorem q153 : (Jvm.Cond.privateMethod ({ cls := "LexTables", name := "step", desc := "(II)I" } : Jvm.MethodName)) ∈ lw_tbl := lw_at lw_m1 131 rfl
theorem q154 : (Jvm.Cond.instanceMethod ({ cls := "LexTables", name := "step", desc := "(II)I" } : Jvm.MethodName)) ∈ lw_all := lw_g (lw_at lw_m1 132 rfl) rfl
theorem q155 : (Jvm.Cond.code ({ cls := "LexTables", name := "step", desc := "(II)I" } : Jvm.MethodName) prog_1_method_20_code (8 : Nat) (Option.some Jvm.ClassFile.FieldType.int)) ∈ lw_all := lw_g (lw_at lw_m1 133 rfl) rfl
theorem q156 : (Jvm.Cond.methodLink "LexTables" (112 : Nat) ({ cls := "LexTables", name := "allFirst", desc := "()J" } : Jvm.MethodName)) ∈ lw_all := lw_g (lw_at lw_m1 134 rfl) rfl
theorem q157 : (Jvm.Cond.privateMethod ({ cls := "LexTables", name := "allFirst", desc := "()J" } : Jvm.MethodName)) ∈ lw_tbl := lw_at lw_m1 135 rfl
theorem q158 : (Jvm.Cond.instanceMethod ({ cls := "LexTables", name := "allFirst", desc := "()J" } : Jvm.MethodName)) ∈ lw_all := lw_g (lw_at lw_m1 136 rfl) rfl
theorem q159 : (Jvm.Cond.code ({ cls := "LexTables", name := "allFirst", desc := "()J" } : Jvm.MethodName) prog_1_method_21_code (4 : Nat) (Option.some Jvm.ClassFile.FieldType.long)) ∈ lw_all := lw_g (lw_at lw_m1 137 rfl) rfl
theorem q160 : (Jvm.Cond.methodLink "LexTables" (97 : Nat) ({ cls := "LexTables", name := "following", desc := "(J)J" } : Jvm.MethodName)) ∈ lw_all := lw_g (lw_at lw_m1 138 rfl) rfl
theorem q161 : (Jvm.Cond.privateMethod ({ cls := "LexTables", name := "following", desc := "(J)J" } : Jvm.MethodName)) ∈ lw_tbl := lw_at lw_m1 139 rfl
theorem q162 : (Jvm.Cond.instanceMethod ({ cls := "LexTables", name := "following", desc := "(J)J" } : Jvm.MethodName)) ∈ lw_all := lw_g (lw_at lw_m1 140 rfl) rfl
theorem q163 : (Jvm.Cond.code ({ cls := "LexTables", name := "following", desc := "(J)J" } : Jvm.MethodName) prog_1_method_17_code (6 : Nat) (Option.some Jvm.ClassFile.FieldType.long)) ∈ lw_all := lw_g (lw_at lw_m1 141 rfl) rfl
theorem q164 : (Jvm.Cond.methodLink "LexTables" (101 : Nat) ({ cls := "LexTables", name := "advance", desc := "(JI)J" } : Jvm.MethodName)) ∈ lw_all := lw_g (lw_at lw_m1 142 rfl) rfl
theorem q165 : (Jvm.Cond.privateMethod ({ cls := "LexTables", name := "advance", desc := "(JI)J" } : Jvm.MethodName)) ∈ lw_tbl := lw_at lw_m1 143 rfl
theorem q166 : (Jvm.Cond.instanceMethod ({ cls := "LexTables", name := "advance", desc := "(JI)J" } : Jvm.MethodName)) ∈ lw_all := lw_g (lw_at lw_m1 144 rfl) rfl
theorem q167 : (Jvm.Cond.code ({ cls := "LexTables", name := "advance", desc := "(JI)J" } : Jvm.MethodName) prog_1_method_18_code (4 : Nat) (Option.some Jvm.ClassFile.FieldType.long)) ∈ lw_all := lw_g (lw_at lw_m1 145 rfl) rfl
theorem q168 : (Jvm.Cond.methodLink "LexTables" (116 : Nat) ({ cls := "LexTables", name := "findState", desc := "(J)I" } : Jvm.MethodName)) ∈ lw_all := lw_g (lw_at lw_m1 146 rfl) rfl
theorem q169 : (Jvm.Cond.privateMethod ({ cls := "LexTables", name := "findState", desc := "(J)I" } : Jvm.MethodName)) ∈ lw_tbl := lw_at lw_m1 147 rfl
theorem q170 : (Jvm.Cond.instanceMethod ({ cls := "LexTables", name := "findState", desc := "(J)I" } : Jvm.MethodName)) ∈ lw_all := lw_g (lw_at lw_m1 148 rfl) rfl
theorem q171 : (Jvm.Cond.code ({ cls := "LexTables", name := "findState", desc := "(J)I" } : Jvm.MethodName) prog_1_method_22_code (4 : Nat) (Option.some Jvm.ClassFile.FieldType.int)) ∈ lw_all := lw_g (lw_at lw_m1 149 rfl) rfl
theorem q172 : (Jvm.Cond.methodLink "LexTables" (120 : Nat) ({ cls := "LexTables", name := "makeState", desc := "(J)I" } : Jvm.MethodName)) ∈ lw_all := lw_g (lw_at lw_m1 150 rfl) rfl
theorem q173 : (Jvm.Cond.privateMethod ({ cls := "LexTables", name := "makeState", desc := "(J)I" } : Jvm.MethodName)) ∈ lw_tbl := lw_at lw_m1 151 rfl
theorem q174 : (Jvm.Cond.instanceMethod ({ cls := "LexTables", name := "makeState", desc := "(J)I" } : Jvm.MethodName)) ∈ lw_all := lw_g (lw_at lw_m1 152 rfl) rfl
theorem q175 : (Jvm.Cond.code ({ cls := "LexTables", name := "makeState", desc := "(J)I" } : Jvm.MethodName) prog_1_method_23_code (5 : Nat) (Option.some Jvm.ClassFile.FieldType.int)) ∈ lw_all := lw_g (lw_at lw_m1 153 rfl) rfl
theorem q177 : (Jvm.Cond.instanceMethod ({ cls := "LexTables", name := "sort", desc := "(I)I" } : Jvm.MethodName)) ∈ lw_all := lw_g (lw_at lw_m1 155 rfl) rfl
theorem q178 : (Jvm.Cond.selects "LexTables" ({ cls := "LexTables", name := "sort", desc := "(I)I" } : Jvm.MethodName) ({ cls := "LexTables", name := "sort", desc := "(I)I" } : Jvm.MethodName)) ∈ lw_all := lw_g (lw_at lw_m1 156 rfl) rfl
theorem q179 : (Jvm.Cond.code ({ cls := "LexTables", name := "sort", desc := "(I)I" } : Jvm.MethodName) prog_1_method_12_code (2 : Nat) (Option.some Jvm.ClassFile.FieldType.int)) ∈ lw_all := lw_g (lw_at lw_m1 157 rfl) rfl
theorem q181 : (Jvm.Cond.instanceMethod ({ cls := "LexTables", name := "length", desc := "(I)I" } : Jvm.MethodName)) ∈ lw_all := lw_g (lw_at lw_m1 159 rfl) rfl
theorem q182 : (Jvm.Cond.selects "LexTables" ({ cls := "LexTables", name := "length", desc := "(I)I" } : Jvm.MethodName) ({ cls := "LexTables", name := "length", desc := "(I)I" } : Jvm.MethodName)) ∈ lw_all := lw_g (lw_at lw_m1 160 rfl) rfl
theorem q183 : (Jvm.Cond.code ({ cls := "LexTables", name := "length", desc := "(I)I" } : Jvm.MethodName) prog_1_method_13_code (2 : Nat) (Option.some Jvm.ClassFile.FieldType.int)) ∈ lw_all := lw_g (lw_at lw_m1 161 rfl) rfl
theorem q185 : (Jvm.Cond.instanceMethod ({ cls := "LexTables", name := "matches", desc := "(I)I" } : Jvm.MethodName)) ∈ lw_all := lw_g (lw_at lw_m1 163 rfl) rfl
theorem q186 : (Jvm.Cond.selects "LexTables" ({ cls := "LexTables", name := "matches", desc := "(I)I" } : Jvm.MethodName) ({ cls := "LexTables", name := "matches", desc := "(I)I" } : Jvm.MethodName)) ∈ lw_all := lw_g (lw_at lw_m1 164 rfl) rfl
theorem q187 : (Jvm.Cond.code ({ cls := "LexTables", name := "matches", desc := "(I)I" } : Jvm.MethodName) prog_1_method_14_code (5 : Nat) (Option.some Jvm.ClassFile.FieldType.int)) ∈ lw_all := lw_g (lw_at lw_m1 165 rfl) rfl
theorem q189 : (Jvm.Cond.instanceMethod ({ cls := "LexTables", name := "count", desc := "(II)I" } : Jvm.MethodName)) ∈ lw_all := lw_g (lw_at lw_m1 167 rfl) rfl
theorem q190 : (Jvm.Cond.selects "LexTables" ({ cls := "LexTables", name := "count", desc := "(II)I" } : Jvm.MethodName) ({ cls := "LexTables", name := "count", desc := "(II)I" } : Jvm.MethodName)) ∈ lw_all := lw_g (lw_at lw_m1 168 rfl) rfl
theorem q191 : (Jvm.Cond.code ({ cls := "LexTables", name := "count", desc := "(II)I" } : Jvm.MethodName) prog_1_method_15_code (8 : Nat) (Option.some Jvm.ClassFile.FieldType.int)) ∈ lw_all := lw_g (lw_at lw_m1 169 rfl) rfl
theorem q193 : (Jvm.Cond.instanceMethod ({ cls := "LexTables", name := "sortOf", desc := "(II)I" } : Jvm.MethodName)) ∈ lw_all := lw_g (lw_at lw_m1 171 rfl) rfl
theorem q194 : (Jvm.Cond.selects "LexTables" ({ cls := "LexTables", name := "sortOf", desc := "(II)I" } : Jvm.MethodName) ({ cls := "LexTables", name := "sortOf", desc := "(II)I" } : Jvm.MethodName)) ∈ lw_all := lw_g (lw_at lw_m1 172 rfl) rfl
theorem q195 : (Jvm.Cond.code ({ cls := "LexTables", name := "sortOf", desc := "(II)I" } : Jvm.MethodName) prog_1_method_16_code (5 : Nat) (Option.some Jvm.ClassFile.FieldType.int)) ∈ lw_all := lw_g (lw_at lw_m1 173 rfl) rfl
theorem in_X0 : ∀ w ∈ wsX00, w ∈ lw_all := lw_in wsX00 [58, 60, 62, 64, 66, 68, 70, 72, 74, 76, 78, 80, 82, 84, 86, 88, 90, 92, 94, 96, 98] (by decide +kernel) (by decide +kernel)
theorem q24 : (Jvm.Cond.initialized "LexTablesModel") ∈ lw_all := lw_g (lw_at lw_m1 2 rfl) rfl
theorem q197 : (Jvm.Cond.instantiable "LexTablesModel" (14 : Nat)) ∈ lw_all := lw_g (lw_at lw_m1 175 rfl) rfl
theorem q199 : (Jvm.Cond.instanceMethod ({ cls := "LexTablesModel", name := "<init>", desc := "()V" } : Jvm.MethodName)) ∈ lw_all := lw_g (lw_at lw_m1 177 rfl) rfl
theorem q200 : (Jvm.Cond.code ({ cls := "LexTablesModel", name := "<init>", desc := "()V" } : Jvm.MethodName) prog_3_method_1_code (1 : Nat) (Option.none : Option Jvm.ClassFile.FieldType)) ∈ lw_all := lw_g (lw_at lw_m1 178 rfl) rfl
theorem q201 : (Jvm.Cond.methodLink "LexTablesModel" (1 : Nat) ({ cls := "java/lang/Object", name := "<init>", desc := "()V" } : Jvm.MethodName)) ∈ lw_all := lw_g (lw_at lw_m1 179 rfl) rfl
theorem q202 : (Jvm.Cond.constant "LexTablesModel" (34 : Nat) (38440 : Int32)) ∈ lw_all := lw_g (lw_at lw_m1 180 rfl) rfl
theorem q203 : (Jvm.Cond.fieldLink "LexTablesModel" (47 : Nat) "LexTablesModel" "tokens" "I") ∈ lw_all := lw_g (lw_at lw_m1 181 rfl) rfl
theorem q204 : (Jvm.Cond.fieldLink "LexTablesModel" (7 : Nat) "LexTablesModel" "codes" "[I") ∈ lw_all := lw_g (lw_at lw_m1 182 rfl) rfl
theorem q205 : (Jvm.Cond.fieldLink "LexTablesModel" (13 : Nat) "LexTablesModel" "args" "[I") ∈ lw_all := lw_g (lw_at lw_m1 183 rfl) rfl
theorem q206 : (Jvm.Cond.fieldLink "LexTablesModel" (16 : Nat) "LexTablesModel" "lefts" "[I") ∈ lw_all := lw_g (lw_at lw_m1 184 rfl) rfl
theorem q207 : (Jvm.Cond.fieldLink "LexTablesModel" (19 : Nat) "LexTablesModel" "rights" "[I") ∈ lw_all := lw_g (lw_at lw_m1 185 rfl) rfl
theorem q208 : (Jvm.Cond.fieldLink "LexTablesModel" (39 : Nat) "LexTablesModel" "height" "I") ∈ lw_all := lw_g (lw_at lw_m1 186 rfl) rfl
theorem q209 : (Jvm.Cond.fieldLink "LexTablesModel" (22 : Nat) "LexTablesModel" "stack" "[I") ∈ lw_all := lw_g (lw_at lw_m1 187 rfl) rfl
theorem q210 : (Jvm.Cond.fieldLink "LexTablesModel" (50 : Nat) "LexTablesModel" "rules" "I") ∈ lw_all := lw_g (lw_at lw_m1 188 rfl) rfl
theorem q211 : (Jvm.Cond.fieldLink "LexTablesModel" (25 : Nat) "LexTablesModel" "ruleOf" "[I") ∈ lw_all := lw_g (lw_at lw_m1 189 rfl) rfl
theorem q212 : (Jvm.Cond.fieldLink "LexTablesModel" (53 : Nat) "LexTablesModel" "letters" "I") ∈ lw_all := lw_g (lw_at lw_m1 190 rfl) rfl
theorem q213 : (Jvm.Cond.fieldLink "LexTablesModel" (28 : Nat) "LexTablesModel" "text" "[I") ∈ lw_all := lw_g (lw_at lw_m1 191 rfl) rfl
theorem q214 : (Jvm.Cond.fieldLink "LexTablesModel" (64 : Nat) "LexTablesModel" "size" "I") ∈ lw_all := lw_g (lw_at lw_m1 192 rfl) rfl
theorem q215 : (Jvm.Cond.fieldLink "LexTablesModel" (31 : Nat) "LexTablesModel" "row" "[I") ∈ lw_all := lw_g (lw_at lw_m1 193 rfl) rfl
theorem q216 : (Jvm.Cond.fieldLink "LexTablesModel" (35 : Nat) "LexTablesModel" "fits" "[Z") ∈ lw_all := lw_g (lw_at lw_m1 194 rfl) rfl
theorem q217 : (Jvm.Cond.lays "LexTablesModel" "LexTablesModel" "tokens" "I") ∈ lw_all := lw_g (lw_at lw_m1 195 rfl) rfl
theorem q218 : (Jvm.Cond.soleField "LexTablesModel" "tokens") ∈ lw_all := lw_g (lw_at lw_m1 196 rfl) rfl
theorem q219 : (Jvm.Cond.laysFinal "LexTablesModel" "LexTablesModel" "codes" "[I") ∈ lw_all := lw_g (lw_at lw_m1 197 rfl) rfl
theorem q220 : (Jvm.Cond.soleField "LexTablesModel" "codes") ∈ lw_all := lw_g (lw_at lw_m1 198 rfl) rfl
theorem q221 : (Jvm.Cond.laysFinal "LexTablesModel" "LexTablesModel" "args" "[I") ∈ lw_all := lw_g (lw_at lw_m1 199 rfl) rfl
theorem q222 : (Jvm.Cond.soleField "LexTablesModel" "args") ∈ lw_all := lw_g (lw_at lw_m1 200 rfl) rfl
theorem q223 : (Jvm.Cond.laysFinal "LexTablesModel" "LexTablesModel" "lefts" "[I") ∈ lw_all := lw_g (lw_at lw_m1 201 rfl) rfl
theorem q224 : (Jvm.Cond.soleField "LexTablesModel" "lefts") ∈ lw_all := lw_g (lw_at lw_m1 202 rfl) rfl
theorem q225 : (Jvm.Cond.laysFinal "LexTablesModel" "LexTablesModel" "rights" "[I") ∈ lw_all := lw_g (lw_at lw_m1 203 rfl) rfl
theorem q226 : (Jvm.Cond.soleField "LexTablesModel" "rights") ∈ lw_all := lw_g (lw_at lw_m1 204 rfl) rfl
theorem q227 : (Jvm.Cond.lays "LexTablesModel" "LexTablesModel" "height" "I") ∈ lw_all := lw_g (lw_at lw_m1 205 rfl) rfl
theorem q228 : (Jvm.Cond.soleField "LexTablesModel" "height") ∈ lw_all := lw_g (lw_at lw_m1 206 rfl) rfl
theorem q229 : (Jvm.Cond.laysFinal "LexTablesModel" "LexTablesModel" "stack" "[I") ∈ lw_all := lw_g (lw_at lw_m1 207 rfl) rfl
theorem q230 : (Jvm.Cond.soleField "LexTablesModel" "stack") ∈ lw_all := lw_g (lw_at lw_m1 208 rfl) rfl
theorem q231 : (Jvm.Cond.lays "LexTablesModel" "LexTablesModel" "rules" "I") ∈ lw_all := lw_g (lw_at lw_m1 209 rfl) rfl
theorem q232 : (Jvm.Cond.soleField "LexTablesModel" "rules") ∈ lw_all := lw_g (lw_at lw_m1 210 rfl) rfl
theorem q233 : (Jvm.Cond.laysFinal "LexTablesModel" "LexTablesModel" "ruleOf" "[I") ∈ lw_all := lw_g (lw_at lw_m1 211 rfl) rfl
theorem q234 : (Jvm.Cond.soleField "LexTablesModel" "ruleOf") ∈ lw_all := lw_g (lw_at lw_m1 212 rfl) rfl
theorem q235 : (Jvm.Cond.lays "LexTablesModel" "LexTablesModel" "letters" "I") ∈ lw_all := lw_g (lw_at lw_m1 213 rfl) rfl
theorem q236 : (Jvm.Cond.soleField "LexTablesModel" "letters") ∈ lw_all := lw_g (lw_at lw_m1 214 rfl) rfl
theorem q237 : (Jvm.Cond.laysFinal "LexTablesModel" "LexTablesModel" "text" "[I") ∈ lw_all := lw_g (lw_at lw_m1 215 rfl) rfl
theorem q238 : (Jvm.Cond.soleField "LexTablesModel" "text") ∈ lw_all := lw_g (lw_at lw_m1 216 rfl) rfl
theorem q239 : (Jvm.Cond.lays "LexTablesModel" "LexTablesModel" "size" "I") ∈ lw_all := lw_g (lw_at lw_m1 217 rfl) rfl
theorem q240 : (Jvm.Cond.soleField "LexTablesModel" "size") ∈ lw_all := lw_g (lw_at lw_m1 218 rfl) rfl
theorem q241 : (Jvm.Cond.laysFinal "LexTablesModel" "LexTablesModel" "row" "[I") ∈ lw_all := lw_g (lw_at lw_m1 219 rfl) rfl
theorem q242 : (Jvm.Cond.soleField "LexTablesModel" "row") ∈ lw_all := lw_g (lw_at lw_m1 220 rfl) rfl
theorem q243 : (Jvm.Cond.laysFinal "LexTablesModel" "LexTablesModel" "fits" "[Z") ∈ lw_all := lw_g (lw_at lw_m1 221 rfl) rfl
theorem q244 : (Jvm.Cond.soleField "LexTablesModel" "fits") ∈ lw_all := lw_g (lw_at lw_m1 222 rfl) rfl
theorem q245 : (Jvm.Cond.superclass "LexTablesModel" "java/lang/Object") ∈ lw_all := lw_g (lw_at lw_m1 223 rfl) rfl
theorem q247 : (Jvm.Cond.instanceMethod ({ cls := "LexTablesModel", name := "token", desc := "(II)I" } : Jvm.MethodName)) ∈ lw_all := lw_g (lw_at lw_m1 225 rfl) rfl
theorem q248 : (Jvm.Cond.selects "LexTablesModel" ({ cls := "LexTablesModel", name := "token", desc := "(II)I" } : Jvm.MethodName) ({ cls := "LexTablesModel", name := "token", desc := "(II)I" } : Jvm.MethodName)) ∈ lw_all := lw_g (lw_at lw_m1 226 rfl) rfl
theorem q249 : (Jvm.Cond.code ({ cls := "LexTablesModel", name := "token", desc := "(II)I" } : Jvm.MethodName) prog_3_method_3_code (3 : Nat) (Option.some Jvm.ClassFile.FieldType.int)) ∈ lw_all := lw_g (lw_at lw_m1 227 rfl) rfl
theorem q250 : (Jvm.Cond.methodLink "LexTablesModel" (43 : Nat) ({ cls := "LexTablesModel", name := "takes", desc := "(I)I" } : Jvm.MethodName)) ∈ lw_all := lw_g (lw_at lw_m1 228 rfl) rfl
theorem q251 : (Jvm.Cond.static ({ cls := "LexTablesModel", name := "takes", desc := "(I)I" } : Jvm.MethodName)) ∈ lw_all := lw_g (lw_at lw_m1 229 rfl) rfl
theorem q252 : (Jvm.Cond.code ({ cls := "LexTablesModel", name := "takes", desc := "(I)I" } : Jvm.MethodName) prog_3_method_2_code (1 : Nat) (Option.some Jvm.ClassFile.FieldType.int)) ∈ lw_all := lw_g (lw_at lw_m1 230 rfl) rfl
theorem q254 : (Jvm.Cond.instanceMethod ({ cls := "LexTablesModel", name := "clear", desc := "()V" } : Jvm.MethodName)) ∈ lw_all := lw_g (lw_at lw_m1 232 rfl) rfl
theorem q255 : (Jvm.Cond.selects "LexTablesModel" ({ cls := "LexTablesModel", name := "clear", desc := "()V" } : Jvm.MethodName) ({ cls := "LexTablesModel", name := "clear", desc := "()V" } : Jvm.MethodName)) ∈ lw_all := lw_g (lw_at lw_m1 233 rfl) rfl
theorem q256 : (Jvm.Cond.code ({ cls := "LexTablesModel", name := "clear", desc := "()V" } : Jvm.MethodName) prog_3_method_4_code (1 : Nat) (Option.none : Option Jvm.ClassFile.FieldType)) ∈ lw_all := lw_g (lw_at lw_m1 234 rfl) rfl
theorem q258 : (Jvm.Cond.instanceMethod ({ cls := "LexTablesModel", name := "type", desc := "(I)I" } : Jvm.MethodName)) ∈ lw_all := lw_g (lw_at lw_m1 236 rfl) rfl
theorem q259 : (Jvm.Cond.selects "LexTablesModel" ({ cls := "LexTablesModel", name := "type", desc := "(I)I" } : Jvm.MethodName) ({ cls := "LexTablesModel", name := "type", desc := "(I)I" } : Jvm.MethodName)) ∈ lw_all := lw_g (lw_at lw_m1 237 rfl) rfl
theorem q260 : (Jvm.Cond.code ({ cls := "LexTablesModel", name := "type", desc := "(I)I" } : Jvm.MethodName) prog_3_method_5_code (2 : Nat) (Option.some Jvm.ClassFile.FieldType.int)) ∈ lw_all := lw_g (lw_at lw_m1 238 rfl) rfl
theorem q262 : (Jvm.Cond.instanceMethod ({ cls := "LexTablesModel", name := "erase", desc := "()V" } : Jvm.MethodName)) ∈ lw_all := lw_g (lw_at lw_m2 0 rfl) rfl
theorem q263 : (Jvm.Cond.selects "LexTablesModel" ({ cls := "LexTablesModel", name := "erase", desc := "()V" } : Jvm.MethodName) ({ cls := "LexTablesModel", name := "erase", desc := "()V" } : Jvm.MethodName)) ∈ lw_all := lw_g (lw_at lw_m2 1 rfl) rfl
theorem q264 : (Jvm.Cond.code ({ cls := "LexTablesModel", name := "erase", desc := "()V" } : Jvm.MethodName) prog_3_method_6_code (1 : Nat) (Option.none : Option Jvm.ClassFile.FieldType)) ∈ lw_all := lw_g (lw_at lw_m2 2 rfl) rfl
theorem q266 : (Jvm.Cond.instanceMethod ({ cls := "LexTablesModel", name := "words", desc := "()I" } : Jvm.MethodName)) ∈ lw_all := lw_g (lw_at lw_m2 4 rfl) rfl
theorem q267 : (Jvm.Cond.selects "LexTablesModel" ({ cls := "LexTablesModel", name := "words", desc := "()I" } : Jvm.MethodName) ({ cls := "LexTablesModel", name := "words", desc := "()I" } : Jvm.MethodName)) ∈ lw_all := lw_g (lw_at lw_m2 5 rfl) rfl
theorem q268 : (Jvm.Cond.code ({ cls := "LexTablesModel", name := "words", desc := "()I" } : Jvm.MethodName) prog_3_method_14_code (3 : Nat) (Option.some Jvm.ClassFile.FieldType.int)) ∈ lw_all := lw_g (lw_at lw_m2 6 rfl) rfl
theorem q269 : (Jvm.Cond.methodLink "LexTablesModel" (77 : Nat) ({ cls := "LexTablesModel", name := "workText", desc := "()V" } : Jvm.MethodName)) ∈ lw_all := lw_g (lw_at lw_m2 7 rfl) rfl
theorem q270 : (Jvm.Cond.privateMethod ({ cls := "LexTablesModel", name := "workText", desc := "()V" } : Jvm.MethodName)) ∈ lw_tbl := lw_at lw_m2 8 rfl
theorem q271 : (Jvm.Cond.instanceMethod ({ cls := "LexTablesModel", name := "workText", desc := "()V" } : Jvm.MethodName)) ∈ lw_all := lw_g (lw_at lw_m2 9 rfl) rfl
theorem q272 : (Jvm.Cond.code ({ cls := "LexTablesModel", name := "workText", desc := "()V" } : Jvm.MethodName) prog_3_method_11_code (2 : Nat) (Option.none : Option Jvm.ClassFile.FieldType)) ∈ lw_all := lw_g (lw_at lw_m2 10 rfl) rfl
theorem q273 : (Jvm.Cond.methodLink "LexTablesModel" (70 : Nat) ({ cls := "LexTablesModel", name := "work", desc := "()V" } : Jvm.MethodName)) ∈ lw_all := lw_g (lw_at lw_m2 11 rfl) rfl
theorem q274 : (Jvm.Cond.privateMethod ({ cls := "LexTablesModel", name := "work", desc := "()V" } : Jvm.MethodName)) ∈ lw_tbl := lw_at lw_m2 12 rfl
theorem q275 : (Jvm.Cond.instanceMethod ({ cls := "LexTablesModel", name := "work", desc := "()V" } : Jvm.MethodName)) ∈ lw_all := lw_g (lw_at lw_m2 13 rfl) rfl
theorem q276 : (Jvm.Cond.code ({ cls := "LexTablesModel", name := "work", desc := "()V" } : Jvm.MethodName) prog_3_method_10_code (5 : Nat) (Option.none : Option Jvm.ClassFile.FieldType)) ∈ lw_all := lw_g (lw_at lw_m2 14 rfl) rfl
theorem q277 : (Jvm.Cond.methodLink "LexTablesModel" (67 : Nat) ({ cls := "LexTablesModel", name := "matched", desc := "(III)Z" } : Jvm.MethodName)) ∈ lw_all := lw_g (lw_at lw_m2 15 rfl) rfl
theorem q278 : (Jvm.Cond.privateMethod ({ cls := "LexTablesModel", name := "matched", desc := "(III)Z" } : Jvm.MethodName)) ∈ lw_tbl := lw_at lw_m2 16 rfl
theorem q279 : (Jvm.Cond.instanceMethod ({ cls := "LexTablesModel", name := "matched", desc := "(III)Z" } : Jvm.MethodName)) ∈ lw_all := lw_g (lw_at lw_m2 17 rfl) rfl
theorem q280 : (Jvm.Cond.code ({ cls := "LexTablesModel", name := "matched", desc := "(III)Z" } : Jvm.MethodName) prog_3_method_9_code (7 : Nat) (Option.some Jvm.ClassFile.FieldType.boolean)) ∈ lw_all := lw_g (lw_at lw_m2 18 rfl) rfl
theorem q281 : (Jvm.Cond.methodLink "LexTablesModel" (60 : Nat) ({ cls := "LexTablesModel", name := "both", desc := "(IIIII)Z" } : Jvm.MethodName)) ∈ lw_all := lw_g (lw_at lw_m2 19 rfl) rfl
theorem q282 : (Jvm.Cond.privateMethod ({ cls := "LexTablesModel", name := "both", desc := "(IIIII)Z" } : Jvm.MethodName)) ∈ lw_tbl := lw_at lw_m2 20 rfl
theorem q283 : (Jvm.Cond.instanceMethod ({ cls := "LexTablesModel", name := "both", desc := "(IIIII)Z" } : Jvm.MethodName)) ∈ lw_all := lw_g (lw_at lw_m2 21 rfl) rfl
theorem q284 : (Jvm.Cond.code ({ cls := "LexTablesModel", name := "both", desc := "(IIIII)Z" } : Jvm.MethodName) prog_3_method_8_code (7 : Nat) (Option.some Jvm.ClassFile.FieldType.boolean)) ∈ lw_all := lw_g (lw_at lw_m2 22 rfl) rfl
theorem q285 : (Jvm.Cond.methodLink "LexTablesModel" (56 : Nat) ({ cls := "LexTablesModel", name := "is", desc := "(III)Z" } : Jvm.MethodName)) ∈ lw_all := lw_g (lw_at lw_m2 23 rfl) rfl
theorem q286 : (Jvm.Cond.privateMethod ({ cls := "LexTablesModel", name := "is", desc := "(III)Z" } : Jvm.MethodName)) ∈ lw_tbl := lw_at lw_m2 24 rfl
theorem q287 : (Jvm.Cond.instanceMethod ({ cls := "LexTablesModel", name := "is", desc := "(III)Z" } : Jvm.MethodName)) ∈ lw_all := lw_g (lw_at lw_m2 25 rfl) rfl
theorem q288 : (Jvm.Cond.code ({ cls := "LexTablesModel", name := "is", desc := "(III)Z" } : Jvm.MethodName) prog_3_method_7_code (4 : Nat) (Option.some Jvm.ClassFile.FieldType.boolean)) ∈ lw_all := lw_g (lw_at lw_m2 26 rfl) rfl
theorem q289 : (Jvm.Cond.methodLink "LexTablesModel" (80 : Nat) ({ cls := "LexTablesModel", name := "end", desc := "(I)I" } : Jvm.MethodName)) ∈ lw_all := lw_g (lw_at lw_m2 27 rfl) rfl
theorem q290 : (Jvm.Cond.privateMethod ({ cls := "LexTablesModel", name := "end", desc := "(I)I" } : Jvm.MethodName)) ∈ lw_tbl := lw_at lw_m2 28 rfl
theorem q291 : (Jvm.Cond.instanceMethod ({ cls := "LexTablesModel", name := "end", desc := "(I)I" } : Jvm.MethodName)) ∈ lw_all := lw_g (lw_at lw_m2 29 rfl) rfl
theorem q292 : (Jvm.Cond.code ({ cls := "LexTablesModel", name := "end", desc := "(I)I" } : Jvm.MethodName) prog_3_method_13_code (3 : Nat) (Option.some Jvm.ClassFile.FieldType.int)) ∈ lw_all := lw_g (lw_at lw_m2 30 rfl) rfl
theorem q293 : (Jvm.Cond.methodLink "LexTablesModel" (73 : Nat) ({ cls := "LexTablesModel", name := "least", desc := "(II)I" } : Jvm.MethodName)) ∈ lw_all := lw_g (lw_at lw_m2 31 rfl) rfl
theorem q294 : (Jvm.Cond.privateMethod ({ cls := "LexTablesModel", name := "least", desc := "(II)I" } : Jvm.MethodName)) ∈ lw_tbl := lw_at lw_m2 32 rfl
theorem q295 : (Jvm.Cond.instanceMethod ({ cls := "LexTablesModel", name := "least", desc := "(II)I" } : Jvm.MethodName)) ∈ lw_all := lw_g (lw_at lw_m2 33 rfl) rfl
theorem q296 : (Jvm.Cond.code ({ cls := "LexTablesModel", name := "least", desc := "(II)I" } : Jvm.MethodName) prog_3_method_12_code (4 : Nat) (Option.some Jvm.ClassFile.FieldType.int)) ∈ lw_all := lw_g (lw_at lw_m2 34 rfl) rfl
theorem q298 : (Jvm.Cond.instanceMethod ({ cls := "LexTablesModel", name := "sort", desc := "(I)I" } : Jvm.MethodName)) ∈ lw_all := lw_g (lw_at lw_m2 36 rfl) rfl
theorem q299 : (Jvm.Cond.selects "LexTablesModel" ({ cls := "LexTablesModel", name := "sort", desc := "(I)I" } : Jvm.MethodName) ({ cls := "LexTablesModel", name := "sort", desc := "(I)I" } : Jvm.MethodName)) ∈ lw_all := lw_g (lw_at lw_m2 37 rfl) rfl
theorem q300 : (Jvm.Cond.code ({ cls := "LexTablesModel", name := "sort", desc := "(I)I" } : Jvm.MethodName) prog_3_method_16_code (4 : Nat) (Option.some Jvm.ClassFile.FieldType.int)) ∈ lw_all := lw_g (lw_at lw_m2 38 rfl) rfl
theorem q301 : (Jvm.Cond.methodLink "LexTablesModel" (83 : Nat) ({ cls := "LexTablesModel", name := "begin", desc := "(I)I" } : Jvm.MethodName)) ∈ lw_all := lw_g (lw_at lw_m2 39 rfl) rfl
theorem q302 : (Jvm.Cond.privateMethod ({ cls := "LexTablesModel", name := "begin", desc := "(I)I" } : Jvm.MethodName)) ∈ lw_tbl := lw_at lw_m2 40 rfl
theorem q303 : (Jvm.Cond.instanceMethod ({ cls := "LexTablesModel", name := "begin", desc := "(I)I" } : Jvm.MethodName)) ∈ lw_all := lw_g (lw_at lw_m2 41 rfl) rfl
theorem q304 : (Jvm.Cond.code ({ cls := "LexTablesModel", name := "begin", desc := "(I)I" } : Jvm.MethodName) prog_3_method_15_code (4 : Nat) (Option.some Jvm.ClassFile.FieldType.int)) ∈ lw_all := lw_g (lw_at lw_m2 42 rfl) rfl
theorem q306 : (Jvm.Cond.instanceMethod ({ cls := "LexTablesModel", name := "length", desc := "(I)I" } : Jvm.MethodName)) ∈ lw_all := lw_g (lw_at lw_m2 44 rfl) rfl
theorem q307 : (Jvm.Cond.selects "LexTablesModel" ({ cls := "LexTablesModel", name := "length", desc := "(I)I" } : Jvm.MethodName) ({ cls := "LexTablesModel", name := "length", desc := "(I)I" } : Jvm.MethodName)) ∈ lw_all := lw_g (lw_at lw_m2 45 rfl) rfl
theorem q308 : (Jvm.Cond.code ({ cls := "LexTablesModel", name := "length", desc := "(I)I" } : Jvm.MethodName) prog_3_method_17_code (3 : Nat) (Option.some Jvm.ClassFile.FieldType.int)) ∈ lw_all := lw_g (lw_at lw_m2 46 rfl) rfl
theorem q310 : (Jvm.Cond.instanceMethod ({ cls := "LexTablesModel", name := "matches", desc := "(I)I" } : Jvm.MethodName)) ∈ lw_all := lw_g (lw_at lw_m2 48 rfl) rfl
theorem q311 : (Jvm.Cond.selects "LexTablesModel" ({ cls := "LexTablesModel", name := "matches", desc := "(I)I" } : Jvm.MethodName) ({ cls := "LexTablesModel", name := "matches", desc := "(I)I" } : Jvm.MethodName)) ∈ lw_all := lw_g (lw_at lw_m2 49 rfl) rfl
theorem q312 : (Jvm.Cond.code ({ cls := "LexTablesModel", name := "matches", desc := "(I)I" } : Jvm.MethodName) prog_3_method_18_code (2 : Nat) (Option.some Jvm.ClassFile.FieldType.int)) ∈ lw_all := lw_g (lw_at lw_m2 50 rfl) rfl
theorem q314 : (Jvm.Cond.instanceMethod ({ cls := "LexTablesModel", name := "count", desc := "(II)I" } : Jvm.MethodName)) ∈ lw_all := lw_g (lw_at lw_m2 52 rfl) rfl
theorem q315 : (Jvm.Cond.selects "LexTablesModel" ({ cls := "LexTablesModel", name := "count", desc := "(II)I" } : Jvm.MethodName) ({ cls := "LexTablesModel", name := "count", desc := "(II)I" } : Jvm.MethodName)) ∈ lw_all := lw_g (lw_at lw_m2 53 rfl) rfl
theorem q316 : (Jvm.Cond.code ({ cls := "LexTablesModel", name := "count", desc := "(II)I" } : Jvm.MethodName) prog_3_method_19_code (7 : Nat) (Option.some Jvm.ClassFile.FieldType.int)) ∈ lw_all := lw_g (lw_at lw_m2 54 rfl) rfl
theorem q318 : (Jvm.Cond.instanceMethod ({ cls := "LexTablesModel", name := "sortOf", desc := "(II)I" } : Jvm.MethodName)) ∈ lw_all := lw_g (lw_at lw_m2 56 rfl) rfl
theorem q319 : (Jvm.Cond.selects "LexTablesModel" ({ cls := "LexTablesModel", name := "sortOf", desc := "(II)I" } : Jvm.MethodName) ({ cls := "LexTablesModel", name := "sortOf", desc := "(II)I" } : Jvm.MethodName)) ∈ lw_all := lw_g (lw_at lw_m2 57 rfl) rfl
theorem q320 : (Jvm.Cond.code ({ cls := "LexTablesModel", name := "sortOf", desc := "(II)I" } : Jvm.MethodName) prog_3_method_20_code (3 : Nat) (Option.some Jvm.ClassFile.FieldType.int)) ∈ lw_all := lw_g (lw_at lw_m2 58 rfl) rfl
theorem in_X1 : ∀ w ∈ wsX10, w ∈ lw_all := lw_in wsX10 [217, 219, 221, 223, 225, 227, 229, 231, 233, 235, 237, 239, 241, 243] (by decide +kernel) (by decide +kernel)
theorem q22 : (Jvm.Cond.initialized "LexTablesLaw") ∈ lw_all := lw_g (lw_at lw_m1 0 rfl) rfl
theorem q25 : (Jvm.Cond.classLink "LexTablesLaw" (7 : Nat) "LexTables") ∈ lw_all := lw_g (lw_at lw_m1 3 rfl) rfl
theorem q27 : (Jvm.Cond.methodLink "LexTablesLaw" (9 : Nat) ({ cls := "LexTables", name := "<init>", desc := "()V" } : Jvm.MethodName)) ∈ lw_all := lw_g (lw_at lw_m1 5 rfl) rfl
theorem q104 : (Jvm.Cond.methodLink "LexTablesLaw" (13 : Nat) ({ cls := "LexTables", name := "token", desc := "(II)I" } : Jvm.MethodName)) ∈ lw_all := lw_g (lw_at lw_m1 82 rfl) rfl
theorem q128 : (Jvm.Cond.methodLink "LexTablesLaw" (18 : Nat) ({ cls := "LexTables", name := "clear", desc := "()V" } : Jvm.MethodName)) ∈ lw_all := lw_g (lw_at lw_m1 106 rfl) rfl
theorem q132 : (Jvm.Cond.methodLink "LexTablesLaw" (22 : Nat) ({ cls := "LexTables", name := "type", desc := "(I)I" } : Jvm.MethodName)) ∈ lw_all := lw_g (lw_at lw_m1 110 rfl) rfl
theorem q136 : (Jvm.Cond.methodLink "LexTablesLaw" (27 : Nat) ({ cls := "LexTables", name := "erase", desc := "()V" } : Jvm.MethodName)) ∈ lw_all := lw_g (lw_at lw_m1 114 rfl) rfl
theorem q140 : (Jvm.Cond.methodLink "LexTablesLaw" (31 : Nat) ({ cls := "LexTables", name := "words", desc := "()I" } : Jvm.MethodName)) ∈ lw_all := lw_g (lw_at lw_m1 118 rfl) rfl
theorem q176 : (Jvm.Cond.methodLink "LexTablesLaw" (36 : Nat) ({ cls := "LexTables", name := "sort", desc := "(I)I" } : Jvm.MethodName)) ∈ lw_all := lw_g (lw_at lw_m1 154 rfl) rfl
theorem q180 : (Jvm.Cond.methodLink "LexTablesLaw" (40 : Nat) ({ cls := "LexTables", name := "length", desc := "(I)I" } : Jvm.MethodName)) ∈ lw_all := lw_g (lw_at lw_m1 158 rfl) rfl
theorem q184 : (Jvm.Cond.methodLink "LexTablesLaw" (44 : Nat) ({ cls := "LexTables", name := "matches", desc := "(I)I" } : Jvm.MethodName)) ∈ lw_all := lw_g (lw_at lw_m1 162 rfl) rfl
theorem q188 : (Jvm.Cond.methodLink "LexTablesLaw" (48 : Nat) ({ cls := "LexTables", name := "count", desc := "(II)I" } : Jvm.MethodName)) ∈ lw_all := lw_g (lw_at lw_m1 166 rfl) rfl
theorem q192 : (Jvm.Cond.methodLink "LexTablesLaw" (52 : Nat) ({ cls := "LexTables", name := "sortOf", desc := "(II)I" } : Jvm.MethodName)) ∈ lw_all := lw_g (lw_at lw_m1 170 rfl) rfl
theorem q196 : (Jvm.Cond.classLink "LexTablesLaw" (10 : Nat) "LexTablesModel") ∈ lw_all := lw_g (lw_at lw_m1 174 rfl) rfl
theorem q198 : (Jvm.Cond.methodLink "LexTablesLaw" (12 : Nat) ({ cls := "LexTablesModel", name := "<init>", desc := "()V" } : Jvm.MethodName)) ∈ lw_all := lw_g (lw_at lw_m1 176 rfl) rfl
theorem q246 : (Jvm.Cond.methodLink "LexTablesLaw" (17 : Nat) ({ cls := "LexTablesModel", name := "token", desc := "(II)I" } : Jvm.MethodName)) ∈ lw_all := lw_g (lw_at lw_m1 224 rfl) rfl
theorem q253 : (Jvm.Cond.methodLink "LexTablesLaw" (21 : Nat) ({ cls := "LexTablesModel", name := "clear", desc := "()V" } : Jvm.MethodName)) ∈ lw_all := lw_g (lw_at lw_m1 231 rfl) rfl
theorem q257 : (Jvm.Cond.methodLink "LexTablesLaw" (26 : Nat) ({ cls := "LexTablesModel", name := "type", desc := "(I)I" } : Jvm.MethodName)) ∈ lw_all := lw_g (lw_at lw_m1 235 rfl) rfl
theorem q261 : (Jvm.Cond.methodLink "LexTablesLaw" (30 : Nat) ({ cls := "LexTablesModel", name := "erase", desc := "()V" } : Jvm.MethodName)) ∈ lw_all := lw_g (lw_at lw_m1 239 rfl) rfl
theorem q265 : (Jvm.Cond.methodLink "LexTablesLaw" (35 : Nat) ({ cls := "LexTablesModel", name := "words", desc := "()I" } : Jvm.MethodName)) ∈ lw_all := lw_g (lw_at lw_m2 3 rfl) rfl
theorem q297 : (Jvm.Cond.methodLink "LexTablesLaw" (39 : Nat) ({ cls := "LexTablesModel", name := "sort", desc := "(I)I" } : Jvm.MethodName)) ∈ lw_all := lw_g (lw_at lw_m2 35 rfl) rfl
theorem q305 : (Jvm.Cond.methodLink "LexTablesLaw" (43 : Nat) ({ cls := "LexTablesModel", name := "length", desc := "(I)I" } : Jvm.MethodName)) ∈ lw_all := lw_g (lw_at lw_m2 43 rfl) rfl
theorem q309 : (Jvm.Cond.methodLink "LexTablesLaw" (47 : Nat) ({ cls := "LexTablesModel", name := "matches", desc := "(I)I" } : Jvm.MethodName)) ∈ lw_all := lw_g (lw_at lw_m2 47 rfl) rfl
theorem q313 : (Jvm.Cond.methodLink "LexTablesLaw" (51 : Nat) ({ cls := "LexTablesModel", name := "count", desc := "(II)I" } : Jvm.MethodName)) ∈ lw_all := lw_g (lw_at lw_m2 51 rfl) rfl
theorem q317 : (Jvm.Cond.methodLink "LexTablesLaw" (55 : Nat) ({ cls := "LexTablesModel", name := "sortOf", desc := "(II)I" } : Jvm.MethodName)) ∈ lw_all := lw_g (lw_at lw_m2 55 rfl) rfl
theorem q101 : (Jvm.Cond.arrayClass Jvm.ClassFile.FieldType.long) ∈ lw_all := lw_g (lw_at lw_m1 79 rfl) rfl
theorem q102 : (Jvm.Cond.arrayClass Jvm.ClassFile.FieldType.boolean) ∈ lw_all := lw_g (lw_at lw_m1 80 rfl) rfl
theorem q103 : (Jvm.Cond.arrayClass Jvm.ClassFile.FieldType.int) ∈ lw_all := lw_g (lw_at lw_m1 81 rfl) rfl
end
section
set_option maxRecDepth 100000
theorem dX0_init_0 : decode cX0_init 0 = .ok (.aload_n 0, 1) := by decide +kernel
theorem dX0_init_1 : decode cX0_init 1 = .ok (.invokespecial 1, 3) := by decide +kernel
theorem dX0_init_4 : decode cX0_init 4 = .ok (.aload_n 0, 1) := by decide +kernel
theorem dX0_init_5 : decode cX0_init 5 = .ok (.bipush 40, 2) := by decide +kernel
theorem dX0_init_7 : decode cX0_init 7 = .ok (.newarray .long, 2) := by decide +kernel
theorem dX0_init_9 : decode cX0_init 9 = .ok (.putfield 7, 3) := by decide +kernel
theorem dX0_init_12 : decode cX0_init 12 = .ok (.aload_n 0, 1) := by decide +kernel
theorem dX0_init_13 : decode cX0_init 13 = .ok (.iconst 4, 1) := by decide +kernel
theorem dX0_init_14 : decode cX0_init 14 = .ok (.newarray .long, 2) := by decide +kernel
theorem dX0_init_16 : decode cX0_init 16 = .ok (.putfield 13, 3) := by decide +kernel
theorem dX0_init_19 : decode cX0_init 19 = .ok (.aload_n 0, 1) := by decide +kernel
theorem dX0_init_20 : decode cX0_init 20 = .ok (.bipush 40, 2) := by decide +kernel
theorem dX0_init_22 : decode cX0_init 22 = .ok (.newarray .long, 2) := by decide +kernel
theorem dX0_init_24 : decode cX0_init 24 = .ok (.putfield 16, 3) := by decide +kernel
theorem dX0_init_27 : decode cX0_init 27 = .ok (.aload_n 0, 1) := by decide +kernel
theorem dX0_init_28 : decode cX0_init 28 = .ok (.bipush 40, 2) := by decide +kernel
theorem dX0_init_30 : decode cX0_init 30 = .ok (.newarray .long, 2) := by decide +kernel
theorem dX0_init_32 : decode cX0_init 32 = .ok (.putfield 19, 3) := by decide +kernel
theorem dX0_init_35 : decode cX0_init 35 = .ok (.aload_n 0, 1) := by decide +kernel
theorem dX0_init_36 : decode cX0_init 36 = .ok (.bipush 40, 2) := by decide +kernel
theorem dX0_init_38 : decode cX0_init 38 = .ok (.newarray .boolean, 2) := by decide +kernel
theorem dX0_init_40 : decode cX0_init 40 = .ok (.putfield 22, 3) := by decide +kernel
theorem dX0_init_43 : decode cX0_init 43 = .ok (.aload_n 0, 1) := by decide +kernel
theorem dX0_init_44 : decode cX0_init 44 = .ok (.iconst 5, 1) := by decide +kernel
theorem dX0_init_45 : decode cX0_init 45 = .ok (.newarray .long, 2) := by decide +kernel
theorem dX0_init_47 : decode cX0_init 47 = .ok (.putfield 26, 3) := by decide +kernel
theorem dX0_init_50 : decode cX0_init 50 = .ok (.aload_n 0, 1) := by decide +kernel
theorem dX0_init_51 : decode cX0_init 51 = .ok (.iconst 5, 1) := by decide +kernel
theorem dX0_init_52 : decode cX0_init 52 = .ok (.newarray .long, 2) := by decide +kernel
theorem dX0_init_54 : decode cX0_init 54 = .ok (.putfield 29, 3) := by decide +kernel
theorem dX0_init_57 : decode cX0_init 57 = .ok (.aload_n 0, 1) := by decide +kernel
theorem dX0_init_58 : decode cX0_init 58 = .ok (.iconst 5, 1) := by decide +kernel
theorem dX0_init_59 : decode cX0_init 59 = .ok (.newarray .boolean, 2) := by decide +kernel
theorem dX0_init_61 : decode cX0_init 61 = .ok (.putfield 32, 3) := by decide +kernel
theorem dX0_init_64 : decode cX0_init 64 = .ok (.aload_n 0, 1) := by decide +kernel
theorem dX0_init_65 : decode cX0_init 65 = .ok (.bipush 48, 2) := by decide +kernel
theorem dX0_init_67 : decode cX0_init 67 = .ok (.newarray .long, 2) := by decide +kernel
theorem dX0_init_69 : decode cX0_init 69 = .ok (.putfield 35, 3) := by decide +kernel
theorem dX0_init_72 : decode cX0_init 72 = .ok (.aload_n 0, 1) := by decide +kernel
theorem dX0_init_73 : decode cX0_init 73 = .ok (.sipush 192, 3) := by decide +kernel
theorem dX0_init_76 : decode cX0_init 76 = .ok (.newarray .int, 2) := by decide +kernel
theorem dX0_init_78 : decode cX0_init 78 = .ok (.putfield 38, 3) := by decide +kernel
theorem dX0_init_81 : decode cX0_init 81 = .ok (.aload_n 0, 1) := by decide +kernel
theorem dX0_init_82 : decode cX0_init 82 = .ok (.bipush 48, 2) := by decide +kernel
theorem dX0_init_84 : decode cX0_init 84 = .ok (.newarray .int, 2) := by decide +kernel
theorem dX0_init_86 : decode cX0_init 86 = .ok (.putfield 42, 3) := by decide +kernel
theorem dX0_init_89 : decode cX0_init 89 = .ok (.aload_n 0, 1) := by decide +kernel
theorem dX0_init_90 : decode cX0_init 90 = .ok (.bipush 30, 2) := by decide +kernel
theorem dX0_init_92 : decode cX0_init 92 = .ok (.newarray .int, 2) := by decide +kernel
theorem dX0_init_94 : decode cX0_init 94 = .ok (.putfield 45, 3) := by decide +kernel
theorem dX0_init_97 : decode cX0_init 97 = .ok (.aload_n 0, 1) := by decide +kernel
theorem dX0_init_98 : decode cX0_init 98 = .ok (.bipush 30, 2) := by decide +kernel
theorem dX0_init_100 : decode cX0_init 100 = .ok (.newarray .int, 2) := by decide +kernel
theorem dX0_init_102 : decode cX0_init 102 = .ok (.putfield 48, 3) := by decide +kernel
theorem dX0_init_105 : decode cX0_init 105 = .ok (.aload_n 0, 1) := by decide +kernel
theorem dX0_init_106 : decode cX0_init 106 = .ok (.bipush 30, 2) := by decide +kernel
theorem dX0_init_108 : decode cX0_init 108 = .ok (.newarray .int, 2) := by decide +kernel
theorem dX0_init_110 : decode cX0_init 110 = .ok (.putfield 51, 3) := by decide +kernel
theorem dX0_init_113 : decode cX0_init 113 = .ok (.aload_n 0, 1) := by decide +kernel
theorem dX0_init_114 : decode cX0_init 114 = .ok (.invokevirtual 54, 3) := by decide +kernel
theorem dX0_init_117 : decode cX0_init 117 = .ok (.return_, 1) := by decide +kernel
theorem dX0_emptyTable_0 : decode cX0_emptyTable 0 = .ok (.aload_n 0, 1) := by decide +kernel
theorem dX0_emptyTable_1 : decode cX0_emptyTable 1 = .ok (.iconst 1, 1) := by decide +kernel
theorem dX0_emptyTable_2 : decode cX0_emptyTable 2 = .ok (.putfield 109, 3) := by decide +kernel
theorem dX0_emptyTable_5 : decode cX0_emptyTable 5 = .ok (.aload_n 0, 1) := by decide +kernel
theorem dX0_emptyTable_6 : decode cX0_emptyTable 6 = .ok (.getfield 35, 3) := by decide +kernel
theorem dX0_emptyTable_9 : decode cX0_emptyTable 9 = .ok (.iconst 0, 1) := by decide +kernel
theorem dX0_emptyTable_10 : decode cX0_emptyTable 10 = .ok (.lconst 0, 1) := by decide +kernel
theorem dX0_emptyTable_11 : decode cX0_emptyTable 11 = .ok (.lastore, 1) := by decide +kernel
theorem dX0_emptyTable_12 : decode cX0_emptyTable 12 = .ok (.aload_n 0, 1) := by decide +kernel
theorem dX0_emptyTable_13 : decode cX0_emptyTable 13 = .ok (.getfield 42, 3) := by decide +kernel
theorem dX0_emptyTable_16 : decode cX0_emptyTable 16 = .ok (.iconst 0, 1) := by decide +kernel
theorem dX0_emptyTable_17 : decode cX0_emptyTable 17 = .ok (.iconst (-1), 1) := by decide +kernel
theorem dX0_emptyTable_18 : decode cX0_emptyTable 18 = .ok (.iastore, 1) := by decide +kernel
theorem dX0_emptyTable_19 : decode cX0_emptyTable 19 = .ok (.aload_n 0, 1) := by decide +kernel
theorem dX0_emptyTable_20 : decode cX0_emptyTable 20 = .ok (.getfield 64, 3) := by decide +kernel
theorem dX0_emptyTable_23 : decode cX0_emptyTable 23 = .ok (.iconst 1, 1) := by decide +kernel
theorem dX0_emptyTable_24 : decode cX0_emptyTable 24 = .ok (.isub, 1) := by decide +kernel
theorem dX0_emptyTable_25 : decode cX0_emptyTable 25 = .ok (.istore_n 1, 1) := by decide +kernel
theorem dX0_emptyTable_26 : decode cX0_emptyTable 26 = .ok (.iload_n 1, 1) := by decide +kernel
theorem dX0_emptyTable_27 : decode cX0_emptyTable 27 = .ok (.ifCond .lt 34, 3) := by decide +kernel
theorem dX0_emptyTable_30 : decode cX0_emptyTable 30 = .ok (.aload_n 0, 1) := by decide +kernel
theorem dX0_emptyTable_31 : decode cX0_emptyTable 31 = .ok (.getfield 42, 3) := by decide +kernel
theorem dX0_emptyTable_34 : decode cX0_emptyTable 34 = .ok (.iconst 0, 1) := by decide +kernel
theorem dX0_emptyTable_35 : decode cX0_emptyTable 35 = .ok (.aload_n 0, 1) := by decide +kernel
theorem dX0_emptyTable_36 : decode cX0_emptyTable 36 = .ok (.getfield 32, 3) := by decide +kernel
theorem dX0_emptyTable_39 : decode cX0_emptyTable 39 = .ok (.iload_n 1, 1) := by decide +kernel
theorem dX0_emptyTable_40 : decode cX0_emptyTable 40 = .ok (.baload, 1) := by decide +kernel
theorem dX0_emptyTable_41 : decode cX0_emptyTable 41 = .ok (.ifCond .eq 7, 3) := by decide +kernel
theorem dX0_emptyTable_44 : decode cX0_emptyTable 44 = .ok (.iload_n 1, 1) := by decide +kernel
theorem dX0_emptyTable_45 : decode cX0_emptyTable 45 = .ok (.goto 9, 3) := by decide +kernel
theorem dX0_emptyTable_48 : decode cX0_emptyTable 48 = .ok (.aload_n 0, 1) := by decide +kernel
theorem dX0_emptyTable_49 : decode cX0_emptyTable 49 = .ok (.getfield 42, 3) := by decide +kernel
theorem dX0_emptyTable_52 : decode cX0_emptyTable 52 = .ok (.iconst 0, 1) := by decide +kernel
theorem dX0_emptyTable_53 : decode cX0_emptyTable 53 = .ok (.iaload, 1) := by decide +kernel
theorem dX0_emptyTable_54 : decode cX0_emptyTable 54 = .ok (.iastore, 1) := by decide +kernel
theorem dX0_emptyTable_55 : decode cX0_emptyTable 55 = .ok (.iinc 1 (-1), 3) := by decide +kernel
theorem dX0_emptyTable_58 : decode cX0_emptyTable 58 = .ok (.goto (-32), 3) := by decide +kernel
theorem dX0_emptyTable_61 : decode cX0_emptyTable 61 = .ok (.iconst 0, 1) := by decide +kernel
theorem dX0_emptyTable_62 : decode cX0_emptyTable 62 = .ok (.istore_n 1, 1) := by decide +kernel
theorem dX0_emptyTable_63 : decode cX0_emptyTable 63 = .ok (.iload_n 1, 1) := by decide +kernel
theorem dX0_emptyTable_64 : decode cX0_emptyTable 64 = .ok (.iconst 4, 1) := by decide +kernel
theorem dX0_emptyTable_65 : decode cX0_emptyTable 65 = .ok (.if_icmp .ge 16, 3) := by decide +kernel
theorem dX0_emptyTable_68 : decode cX0_emptyTable 68 = .ok (.aload_n 0, 1) := by decide +kernel
theorem dX0_emptyTable_69 : decode cX0_emptyTable 69 = .ok (.getfield 38, 3) := by decide +kernel
theorem dX0_emptyTable_72 : decode cX0_emptyTable 72 = .ok (.iload_n 1, 1) := by decide +kernel
theorem dX0_emptyTable_73 : decode cX0_emptyTable 73 = .ok (.iconst (-1), 1) := by decide +kernel
theorem dX0_emptyTable_74 : decode cX0_emptyTable 74 = .ok (.iastore, 1) := by decide +kernel
theorem dX0_emptyTable_75 : decode cX0_emptyTable 75 = .ok (.iinc 1 1, 3) := by decide +kernel
theorem dX0_emptyTable_78 : decode cX0_emptyTable 78 = .ok (.goto (-15), 3) := by decide +kernel
theorem dX0_emptyTable_81 : decode cX0_emptyTable 81 = .ok (.return_, 1) := by decide +kernel
theorem dX0_token_0 : decode cX0_token 0 = .ok (.iload_n 1, 1) := by decide +kernel
theorem dX0_token_1 : decode cX0_token 1 = .ok (.iconst 3, 1) := by decide +kernel
theorem dX0_token_2 : decode cX0_token 2 = .ok (.if_icmp .ge 7, 3) := by decide +kernel
theorem dX0_token_5 : decode cX0_token 5 = .ok (.iconst 0, 1) := by decide +kernel
theorem dX0_token_6 : decode cX0_token 6 = .ok (.goto 13, 3) := by decide +kernel
theorem dX0_token_9 : decode cX0_token 9 = .ok (.iload_n 1, 1) := by decide +kernel
theorem dX0_token_10 : decode cX0_token 10 = .ok (.iconst 5, 1) := by decide +kernel
theorem dX0_token_11 : decode cX0_token 11 = .ok (.if_icmp .ge 7, 3) := by decide +kernel
theorem dX0_token_14 : decode cX0_token 14 = .ok (.iconst 2, 1) := by decide +kernel
theorem dX0_token_15 : decode cX0_token 15 = .ok (.goto 4, 3) := by decide +kernel
theorem dX0_token_18 : decode cX0_token 18 = .ok (.iconst 1, 1) := by decide +kernel
theorem dX0_token_19 : decode cX0_token 19 = .ok (.istore_n 3, 1) := by decide +kernel
theorem dX0_token_20 : decode cX0_token 20 = .ok (.iload_n 1, 1) := by decide +kernel
theorem dX0_token_21 : decode cX0_token 21 = .ok (.ifCond .lt 40, 3) := by decide +kernel
theorem dX0_token_24 : decode cX0_token 24 = .ok (.iload_n 1, 1) := by decide +kernel
theorem dX0_token_25 : decode cX0_token 25 = .ok (.bipush 7, 2) := by decide +kernel
theorem dX0_token_27 : decode cX0_token 27 = .ok (.if_icmp .gt 34, 3) := by decide +kernel
theorem dX0_token_30 : decode cX0_token 30 = .ok (.aload_n 0, 1) := by decide +kernel
theorem dX0_token_31 : decode cX0_token 31 = .ok (.getfield 57, 3) := by decide +kernel
theorem dX0_token_34 : decode cX0_token 34 = .ok (.iload_n 3, 1) := by decide +kernel
theorem dX0_token_35 : decode cX0_token 35 = .ok (.if_icmp .lt 26, 3) := by decide +kernel
theorem dX0_token_38 : decode cX0_token 38 = .ok (.aload_n 0, 1) := by decide +kernel
theorem dX0_token_39 : decode cX0_token 39 = .ok (.getfield 61, 3) := by decide +kernel
theorem dX0_token_42 : decode cX0_token 42 = .ok (.bipush 40, 2) := by decide +kernel
theorem dX0_token_44 : decode cX0_token 44 = .ok (.if_icmp .ge 17, 3) := by decide +kernel
theorem dX0_token_47 : decode cX0_token 47 = .ok (.iload_n 1, 1) := by decide +kernel
theorem dX0_token_48 : decode cX0_token 48 = .ok (.bipush 7, 2) := by decide +kernel
theorem dX0_token_50 : decode cX0_token 50 = .ok (.if_icmp .ne 13, 3) := by decide +kernel
theorem dX0_token_53 : decode cX0_token 53 = .ok (.aload_n 0, 1) := by decide +kernel
theorem dX0_token_54 : decode cX0_token 54 = .ok (.getfield 64, 3) := by decide +kernel
theorem dX0_token_57 : decode cX0_token 57 = .ok (.iconst 5, 1) := by decide +kernel
theorem dX0_token_58 : decode cX0_token 58 = .ok (.if_icmp .lt 5, 3) := by decide +kernel
theorem dX0_token_61 : decode cX0_token 61 = .ok (.iconst (-1), 1) := by decide +kernel
theorem dX0_token_62 : decode cX0_token 62 = .ok (.ireturn, 1) := by decide +kernel
theorem dX0_token_63 : decode cX0_token 63 = .ok (.aload_n 0, 1) := by decide +kernel
theorem dX0_token_64 : decode cX0_token 64 = .ok (.dup, 1) := by decide +kernel
theorem dX0_token_65 : decode cX0_token 65 = .ok (.getfield 61, 3) := by decide +kernel
theorem dX0_token_68 : decode cX0_token 68 = .ok (.iconst 1, 1) := by decide +kernel
theorem dX0_token_69 : decode cX0_token 69 = .ok (.iadd, 1) := by decide +kernel
theorem dX0_token_70 : decode cX0_token 70 = .ok (.putfield 61, 3) := by decide +kernel
theorem dX0_token_73 : decode cX0_token 73 = .ok (.iload_n 1, 1) := by decide +kernel
theorem dX0_token_74 : decode cX0_token 74 = .ok (.ifCond .ne 15, 3) := by decide +kernel
theorem dX0_token_77 : decode cX0_token 77 = .ok (.aload_n 0, 1) := by decide +kernel
theorem dX0_token_78 : decode cX0_token 78 = .ok (.iconst 1, 1) := by decide +kernel
theorem dX0_token_79 : decode cX0_token 79 = .ok (.iload_n 2, 1) := by decide +kernel
theorem dX0_token_80 : decode cX0_token 80 = .ok (.iconst 3, 1) := by decide +kernel
theorem dX0_token_81 : decode cX0_token 81 = .ok (.iand, 1) := by decide +kernel
theorem dX0_token_82 : decode cX0_token 82 = .ok (.ishl, 1) := by decide +kernel
theorem dX0_token_83 : decode cX0_token 83 = .ok (.invokevirtual 67, 3) := by decide +kernel
theorem dX0_token_86 : decode cX0_token 86 = .ok (.goto 208, 3) := by decide +kernel
theorem dX0_token_89 : decode cX0_token 89 = .ok (.iload_n 1, 1) := by decide +kernel
theorem dX0_token_90 : decode cX0_token 90 = .ok (.iconst 1, 1) := by decide +kernel
theorem dX0_token_91 : decode cX0_token 91 = .ok (.if_icmp .ne 12, 3) := by decide +kernel
theorem dX0_token_94 : decode cX0_token 94 = .ok (.aload_n 0, 1) := by decide +kernel
theorem dX0_token_95 : decode cX0_token 95 = .ok (.bipush 15, 2) := by decide +kernel
theorem dX0_token_97 : decode cX0_token 97 = .ok (.invokevirtual 67, 3) := by decide +kernel
theorem dX0_token_100 : decode cX0_token 100 = .ok (.goto 194, 3) := by decide +kernel
theorem dX0_token_103 : decode cX0_token 103 = .ok (.iload_n 1, 1) := by decide +kernel
theorem dX0_token_104 : decode cX0_token 104 = .ok (.iconst 2, 1) := by decide +kernel
theorem dX0_token_105 : decode cX0_token 105 = .ok (.if_icmp .ne 13, 3) := by decide +kernel
theorem dX0_token_108 : decode cX0_token 108 = .ok (.aload_n 0, 1) := by decide +kernel
theorem dX0_token_109 : decode cX0_token 109 = .ok (.lconst 0, 1) := by decide +kernel
theorem dX0_token_110 : decode cX0_token 110 = .ok (.lconst 0, 1) := by decide +kernel
theorem dX0_token_111 : decode cX0_token 111 = .ok (.iconst 1, 1) := by decide +kernel
theorem dX0_token_112 : decode cX0_token 112 = .ok (.invokevirtual 71, 3) := by decide +kernel
theorem dX0_token_115 : decode cX0_token 115 = .ok (.goto 179, 3) := by decide +kernel
theorem dX0_token_118 : decode cX0_token 118 = .ok (.iload_n 1, 1) := by decide +kernel
theorem dX0_token_119 : decode cX0_token 119 = .ok (.iconst 3, 1) := by decide +kernel
theorem dX0_token_120 : decode cX0_token 120 = .ok (.if_icmp .ne 10, 3) := by decide +kernel
theorem dX0_token_123 : decode cX0_token 123 = .ok (.aload_n 0, 1) := by decide +kernel
theorem dX0_token_124 : decode cX0_token 124 = .ok (.invokevirtual 75, 3) := by decide +kernel
theorem dX0_token_127 : decode cX0_token 127 = .ok (.goto 167, 3) := by decide +kernel
theorem dX0_token_130 : decode cX0_token 130 = .ok (.iload_n 1, 1) := by decide +kernel
theorem dX0_token_131 : decode cX0_token 131 = .ok (.iconst 4, 1) := by decide +kernel
theorem dX0_token_132 : decode cX0_token 132 = .ok (.if_icmp .ne 96, 3) := by decide +kernel
theorem dX0_token_135 : decode cX0_token 135 = .ok (.aload_n 0, 1) := by decide +kernel
theorem dX0_token_136 : decode cX0_token 136 = .ok (.dup, 1) := by decide +kernel
theorem dX0_token_137 : decode cX0_token 137 = .ok (.getfield 57, 3) := by decide +kernel
theorem dX0_token_140 : decode cX0_token 140 = .ok (.iconst 1, 1) := by decide +kernel
theorem dX0_token_141 : decode cX0_token 141 = .ok (.isub, 1) := by decide +kernel
theorem dX0_token_142 : decode cX0_token 142 = .ok (.putfield 57, 3) := by decide +kernel
theorem dX0_token_145 : decode cX0_token 145 = .ok (.aload_n 0, 1) := by decide +kernel
theorem dX0_token_146 : decode cX0_token 146 = .ok (.getfield 57, 3) := by decide +kernel
theorem dX0_token_149 : decode cX0_token 149 = .ok (.iconst 1, 1) := by decide +kernel
theorem dX0_token_150 : decode cX0_token 150 = .ok (.isub, 1) := by decide +kernel
theorem dX0_token_151 : decode cX0_token 151 = .ok (.istore 4, 2) := by decide +kernel
theorem dX0_token_153 : decode cX0_token 153 = .ok (.aload_n 0, 1) := by decide +kernel
theorem dX0_token_154 : decode cX0_token 154 = .ok (.getfield 16, 3) := by decide +kernel
theorem dX0_token_157 : decode cX0_token 157 = .ok (.iload 4, 2) := by decide +kernel
theorem dX0_token_159 : decode cX0_token 159 = .ok (.dup2, 1) := by decide +kernel
theorem dX0_token_160 : decode cX0_token 160 = .ok (.laload, 1) := by decide +kernel
theorem dX0_token_161 : decode cX0_token 161 = .ok (.aload_n 0, 1) := by decide +kernel
theorem dX0_token_162 : decode cX0_token 162 = .ok (.getfield 16, 3) := by decide +kernel
theorem dX0_token_165 : decode cX0_token 165 = .ok (.iload 4, 2) := by decide +kernel
theorem dX0_token_167 : decode cX0_token 167 = .ok (.iconst 1, 1) := by decide +kernel
theorem dX0_token_168 : decode cX0_token 168 = .ok (.iadd, 1) := by decide +kernel
theorem dX0_token_169 : decode cX0_token 169 = .ok (.laload, 1) := by decide +kernel
theorem dX0_token_170 : decode cX0_token 170 = .ok (.lor, 1) := by decide +kernel
theorem dX0_token_171 : decode cX0_token 171 = .ok (.lastore, 1) := by decide +kernel
theorem dX0_token_172 : decode cX0_token 172 = .ok (.aload_n 0, 1) := by decide +kernel
theorem dX0_token_173 : decode cX0_token 173 = .ok (.getfield 19, 3) := by decide +kernel
theorem dX0_token_176 : decode cX0_token 176 = .ok (.iload 4, 2) := by decide +kernel
theorem dX0_token_178 : decode cX0_token 178 = .ok (.dup2, 1) := by decide +kernel
theorem dX0_token_179 : decode cX0_token 179 = .ok (.laload, 1) := by decide +kernel
theorem dX0_token_180 : decode cX0_token 180 = .ok (.aload_n 0, 1) := by decide +kernel
theorem dX0_token_181 : decode cX0_token 181 = .ok (.getfield 19, 3) := by decide +kernel
theorem dX0_token_184 : decode cX0_token 184 = .ok (.iload 4, 2) := by decide +kernel
theorem dX0_token_186 : decode cX0_token 186 = .ok (.iconst 1, 1) := by decide +kernel
theorem dX0_token_187 : decode cX0_token 187 = .ok (.iadd, 1) := by decide +kernel
theorem dX0_token_188 : decode cX0_token 188 = .ok (.laload, 1) := by decide +kernel
theorem dX0_token_189 : decode cX0_token 189 = .ok (.lor, 1) := by decide +kernel
theorem dX0_token_190 : decode cX0_token 190 = .ok (.lastore, 1) := by decide +kernel
theorem dX0_token_191 : decode cX0_token 191 = .ok (.aload_n 0, 1) := by decide +kernel
theorem dX0_token_192 : decode cX0_token 192 = .ok (.getfield 22, 3) := by decide +kernel
theorem dX0_token_195 : decode cX0_token 195 = .ok (.iload 4, 2) := by decide +kernel
theorem dX0_token_197 : decode cX0_token 197 = .ok (.aload_n 0, 1) := by decide +kernel
theorem dX0_token_198 : decode cX0_token 198 = .ok (.getfield 22, 3) := by decide +kernel
theorem dX0_token_201 : decode cX0_token 201 = .ok (.iload 4, 2) := by decide +kernel
theorem dX0_token_203 : decode cX0_token 203 = .ok (.baload, 1) := by decide +kernel
theorem dX0_token_204 : decode cX0_token 204 = .ok (.ifCond .ne 15, 3) := by decide +kernel
theorem dX0_token_207 : decode cX0_token 207 = .ok (.aload_n 0, 1) := by decide +kernel
theorem dX0_token_208 : decode cX0_token 208 = .ok (.getfield 22, 3) := by decide +kernel
theorem dX0_token_211 : decode cX0_token 211 = .ok (.iload 4, 2) := by decide +kernel
theorem dX0_token_213 : decode cX0_token 213 = .ok (.iconst 1, 1) := by decide +kernel
theorem dX0_token_214 : decode cX0_token 214 = .ok (.iadd, 1) := by decide +kernel
theorem dX0_token_215 : decode cX0_token 215 = .ok (.baload, 1) := by decide +kernel
theorem dX0_token_216 : decode cX0_token 216 = .ok (.ifCond .eq 7, 3) := by decide +kernel
theorem dX0_token_219 : decode cX0_token 219 = .ok (.iconst 1, 1) := by decide +kernel
theorem dX0_token_220 : decode cX0_token 220 = .ok (.goto 4, 3) := by decide +kernel
theorem dX0_token_223 : decode cX0_token 223 = .ok (.iconst 0, 1) := by decide +kernel
theorem dX0_token_224 : decode cX0_token 224 = .ok (.bastore, 1) := by decide +kernel
theorem dX0_token_225 : decode cX0_token 225 = .ok (.goto 69, 3) := by decide +kernel
theorem dX0_token_228 : decode cX0_token 228 = .ok (.iload_n 1, 1) := by decide +kernel
theorem dX0_token_229 : decode cX0_token 229 = .ok (.bipush 7, 2) := by decide +kernel
theorem dX0_token_231 : decode cX0_token 231 = .ok (.if_icmp .ne 10, 3) := by decide +kernel
theorem dX0_token_234 : decode cX0_token 234 = .ok (.aload_n 0, 1) := by decide +kernel
theorem dX0_token_235 : decode cX0_token 235 = .ok (.invokevirtual 78, 3) := by decide +kernel
theorem dX0_token_238 : decode cX0_token 238 = .ok (.goto 56, 3) := by decide +kernel
theorem dX0_token_241 : decode cX0_token 241 = .ok (.aload_n 0, 1) := by decide +kernel
theorem dX0_token_242 : decode cX0_token 242 = .ok (.getfield 57, 3) := by decide +kernel
theorem dX0_token_245 : decode cX0_token 245 = .ok (.iconst 1, 1) := by decide +kernel
theorem dX0_token_246 : decode cX0_token 246 = .ok (.isub, 1) := by decide +kernel
theorem dX0_token_247 : decode cX0_token 247 = .ok (.istore 4, 2) := by decide +kernel
theorem dX0_token_249 : decode cX0_token 249 = .ok (.aload_n 0, 1) := by decide +kernel
theorem dX0_token_250 : decode cX0_token 250 = .ok (.aload_n 0, 1) := by decide +kernel
theorem dX0_token_251 : decode cX0_token 251 = .ok (.getfield 19, 3) := by decide +kernel
theorem dX0_token_254 : decode cX0_token 254 = .ok (.iload 4, 2) := by decide +kernel
theorem dX0_token_256 : decode cX0_token 256 = .ok (.laload, 1) := by decide +kernel
theorem dX0_token_257 : decode cX0_token 257 = .ok (.aload_n 0, 1) := by decide +kernel
theorem dX0_token_258 : decode cX0_token 258 = .ok (.getfield 16, 3) := by decide +kernel
theorem dX0_token_261 : decode cX0_token 261 = .ok (.iload 4, 2) := by decide +kernel
theorem dX0_token_263 : decode cX0_token 263 = .ok (.laload, 1) := by decide +kernel
theorem dX0_token_264 : decode cX0_token 264 = .ok (.invokevirtual 81, 3) := by decide +kernel
theorem dX0_token_267 : decode cX0_token 267 = .ok (.aload_n 0, 1) := by decide +kernel
theorem dX0_token_268 : decode cX0_token 268 = .ok (.getfield 22, 3) := by decide +kernel
theorem dX0_token_271 : decode cX0_token 271 = .ok (.iload 4, 2) := by decide +kernel
theorem dX0_token_273 : decode cX0_token 273 = .ok (.aload_n 0, 1) := by decide +kernel
theorem dX0_token_274 : decode cX0_token 274 = .ok (.getfield 22, 3) := by decide +kernel
theorem dX0_token_277 : decode cX0_token 277 = .ok (.iload 4, 2) := by decide +kernel
theorem dX0_token_279 : decode cX0_token 279 = .ok (.baload, 1) := by decide +kernel
theorem dX0_token_280 : decode cX0_token 280 = .ok (.ifCond .ne 8, 3) := by decide +kernel
theorem dX0_token_283 : decode cX0_token 283 = .ok (.iload_n 1, 1) := by decide +kernel
theorem dX0_token_284 : decode cX0_token 284 = .ok (.iconst 5, 1) := by decide +kernel
theorem dX0_token_285 : decode cX0_token 285 = .ok (.if_icmp .ne 7, 3) := by decide +kernel
theorem dX0_token_288 : decode cX0_token 288 = .ok (.iconst 1, 1) := by decide +kernel
theorem dX0_token_289 : decode cX0_token 289 = .ok (.goto 4, 3) := by decide +kernel
theorem dX0_token_292 : decode cX0_token 292 = .ok (.iconst 0, 1) := by decide +kernel
theorem dX0_token_293 : decode cX0_token 293 = .ok (.bastore, 1) := by decide +kernel
theorem dX0_token_294 : decode cX0_token 294 = .ok (.aload_n 0, 1) := by decide +kernel
theorem dX0_token_295 : decode cX0_token 295 = .ok (.getfield 57, 3) := by decide +kernel
theorem dX0_token_298 : decode cX0_token 298 = .ok (.ireturn, 1) := by decide +kernel
theorem dX0_pushPlace_0 : decode cX0_pushPlace 0 = .ok (.aload_n 0, 1) := by decide +kernel
theorem dX0_pushPlace_1 : decode cX0_pushPlace 1 = .ok (.getfield 85, 3) := by decide +kernel
theorem dX0_pushPlace_4 : decode cX0_pushPlace 4 = .ok (.istore_n 2, 1) := by decide +kernel
theorem dX0_pushPlace_5 : decode cX0_pushPlace 5 = .ok (.aload_n 0, 1) := by decide +kernel
theorem dX0_pushPlace_6 : decode cX0_pushPlace 6 = .ok (.dup, 1) := by decide +kernel
theorem dX0_pushPlace_7 : decode cX0_pushPlace 7 = .ok (.getfield 85, 3) := by decide +kernel
theorem dX0_pushPlace_10 : decode cX0_pushPlace 10 = .ok (.iconst 1, 1) := by decide +kernel
theorem dX0_pushPlace_11 : decode cX0_pushPlace 11 = .ok (.iadd, 1) := by decide +kernel
theorem dX0_pushPlace_12 : decode cX0_pushPlace 12 = .ok (.putfield 85, 3) := by decide +kernel
theorem dX0_pushPlace_15 : decode cX0_pushPlace 15 = .ok (.aload_n 0, 1) := by decide +kernel
theorem dX0_pushPlace_16 : decode cX0_pushPlace 16 = .ok (.getfield 7, 3) := by decide +kernel
theorem dX0_pushPlace_19 : decode cX0_pushPlace 19 = .ok (.iload_n 2, 1) := by decide +kernel
theorem dX0_pushPlace_20 : decode cX0_pushPlace 20 = .ok (.lconst 0, 1) := by decide +kernel
theorem dX0_pushPlace_21 : decode cX0_pushPlace 21 = .ok (.lastore, 1) := by decide +kernel
theorem dX0_pushPlace_22 : decode cX0_pushPlace 22 = .ok (.iconst 0, 1) := by decide +kernel
theorem dX0_pushPlace_23 : decode cX0_pushPlace 23 = .ok (.istore_n 3, 1) := by decide +kernel
theorem dX0_pushPlace_24 : decode cX0_pushPlace 24 = .ok (.iload_n 3, 1) := by decide +kernel
theorem dX0_pushPlace_25 : decode cX0_pushPlace 25 = .ok (.iconst 4, 1) := by decide +kernel
theorem dX0_pushPlace_26 : decode cX0_pushPlace 26 = .ok (.if_icmp .ge 33, 3) := by decide +kernel
theorem dX0_pushPlace_29 : decode cX0_pushPlace 29 = .ok (.aload_n 0, 1) := by decide +kernel
theorem dX0_pushPlace_30 : decode cX0_pushPlace 30 = .ok (.getfield 13, 3) := by decide +kernel
theorem dX0_pushPlace_33 : decode cX0_pushPlace 33 = .ok (.iload_n 3, 1) := by decide +kernel
theorem dX0_pushPlace_34 : decode cX0_pushPlace 34 = .ok (.dup2, 1) := by decide +kernel
theorem dX0_pushPlace_35 : decode cX0_pushPlace 35 = .ok (.laload, 1) := by decide +kernel
theorem dX0_pushPlace_36 : decode cX0_pushPlace 36 = .ok (.iload_n 1, 1) := by decide +kernel
theorem dX0_pushPlace_37 : decode cX0_pushPlace 37 = .ok (.iload_n 3, 1) := by decide +kernel
theorem dX0_pushPlace_38 : decode cX0_pushPlace 38 = .ok (.iushr, 1) := by decide +kernel
theorem dX0_pushPlace_39 : decode cX0_pushPlace 39 = .ok (.iconst 1, 1) := by decide +kernel
theorem dX0_pushPlace_40 : decode cX0_pushPlace 40 = .ok (.iand, 1) := by decide +kernel
theorem dX0_pushPlace_41 : decode cX0_pushPlace 41 = .ok (.ifCond .eq 9, 3) := by decide +kernel
theorem dX0_pushPlace_44 : decode cX0_pushPlace 44 = .ok (.lconst 1, 1) := by decide +kernel
theorem dX0_pushPlace_45 : decode cX0_pushPlace 45 = .ok (.iload_n 2, 1) := by decide +kernel
theorem dX0_pushPlace_46 : decode cX0_pushPlace 46 = .ok (.lshl, 1) := by decide +kernel
theorem dX0_pushPlace_47 : decode cX0_pushPlace 47 = .ok (.goto 4, 3) := by decide +kernel
theorem dX0_pushPlace_50 : decode cX0_pushPlace 50 = .ok (.lconst 0, 1) := by decide +kernel
theorem dX0_pushPlace_51 : decode cX0_pushPlace 51 = .ok (.lor, 1) := by decide +kernel
theorem dX0_pushPlace_52 : decode cX0_pushPlace 52 = .ok (.lastore, 1) := by decide +kernel
theorem dX0_pushPlace_53 : decode cX0_pushPlace 53 = .ok (.iinc 3 1, 3) := by decide +kernel
theorem dX0_pushPlace_56 : decode cX0_pushPlace 56 = .ok (.goto (-32), 3) := by decide +kernel
theorem dX0_pushPlace_59 : decode cX0_pushPlace 59 = .ok (.aload_n 0, 1) := by decide +kernel
theorem dX0_pushPlace_60 : decode cX0_pushPlace 60 = .ok (.lconst 1, 1) := by decide +kernel
theorem dX0_pushPlace_61 : decode cX0_pushPlace 61 = .ok (.iload_n 2, 1) := by decide +kernel
theorem dX0_pushPlace_62 : decode cX0_pushPlace 62 = .ok (.lshl, 1) := by decide +kernel
theorem dX0_pushPlace_63 : decode cX0_pushPlace 63 = .ok (.lconst 1, 1) := by decide +kernel
theorem dX0_pushPlace_64 : decode cX0_pushPlace 64 = .ok (.iload_n 2, 1) := by decide +kernel
theorem dX0_pushPlace_65 : decode cX0_pushPlace 65 = .ok (.lshl, 1) := by decide +kernel
theorem dX0_pushPlace_66 : decode cX0_pushPlace 66 = .ok (.iconst 0, 1) := by decide +kernel
theorem dX0_pushPlace_67 : decode cX0_pushPlace 67 = .ok (.invokevirtual 71, 3) := by decide +kernel
theorem dX0_pushPlace_70 : decode cX0_pushPlace 70 = .ok (.return_, 1) := by decide +kernel
theorem dX0_push_0 : decode cX0_push 0 = .ok (.aload_n 0, 1) := by decide +kernel
theorem dX0_push_1 : decode cX0_push 1 = .ok (.getfield 16, 3) := by decide +kernel
theorem dX0_push_4 : decode cX0_push 4 = .ok (.aload_n 0, 1) := by decide +kernel
theorem dX0_push_5 : decode cX0_push 5 = .ok (.getfield 57, 3) := by decide +kernel
theorem dX0_push_8 : decode cX0_push 8 = .ok (.lload_n 1, 1) := by decide +kernel
theorem dX0_push_9 : decode cX0_push 9 = .ok (.lastore, 1) := by decide +kernel
theorem dX0_push_10 : decode cX0_push 10 = .ok (.aload_n 0, 1) := by decide +kernel
theorem dX0_push_11 : decode cX0_push 11 = .ok (.getfield 19, 3) := by decide +kernel
theorem dX0_push_14 : decode cX0_push 14 = .ok (.aload_n 0, 1) := by decide +kernel
theorem dX0_push_15 : decode cX0_push 15 = .ok (.getfield 57, 3) := by decide +kernel
theorem dX0_push_18 : decode cX0_push 18 = .ok (.lload_n 3, 1) := by decide +kernel
theorem dX0_push_19 : decode cX0_push 19 = .ok (.lastore, 1) := by decide +kernel
theorem dX0_push_20 : decode cX0_push 20 = .ok (.aload_n 0, 1) := by decide +kernel
theorem dX0_push_21 : decode cX0_push 21 = .ok (.getfield 22, 3) := by decide +kernel
theorem dX0_push_24 : decode cX0_push 24 = .ok (.aload_n 0, 1) := by decide +kernel
theorem dX0_push_25 : decode cX0_push 25 = .ok (.getfield 57, 3) := by decide +kernel
theorem dX0_push_28 : decode cX0_push 28 = .ok (.iload 5, 2) := by decide +kernel
theorem dX0_push_30 : decode cX0_push 30 = .ok (.bastore, 1) := by decide +kernel
theorem dX0_push_31 : decode cX0_push 31 = .ok (.aload_n 0, 1) := by decide +kernel
theorem dX0_push_32 : decode cX0_push 32 = .ok (.dup, 1) := by decide +kernel
theorem dX0_push_33 : decode cX0_push 33 = .ok (.getfield 57, 3) := by decide +kernel
theorem dX0_push_36 : decode cX0_push 36 = .ok (.iconst 1, 1) := by decide +kernel
theorem dX0_push_37 : decode cX0_push 37 = .ok (.iadd, 1) := by decide +kernel
theorem dX0_push_38 : decode cX0_push 38 = .ok (.putfield 57, 3) := by decide +kernel
theorem dX0_push_41 : decode cX0_push 41 = .ok (.return_, 1) := by decide +kernel
end
section
set_option maxRecDepth 100000
theorem dX0_joinTwo_0 : decode cX0_joinTwo 0 = .ok (.aload_n 0, 1) := by decide +kernel
theorem dX0_joinTwo_1 : decode cX0_joinTwo 1 = .ok (.dup, 1) := by decide +kernel
theorem dX0_joinTwo_2 : decode cX0_joinTwo 2 = .ok (.getfield 57, 3) := by decide +kernel
theorem dX0_joinTwo_5 : decode cX0_joinTwo 5 = .ok (.iconst 1, 1) := by decide +kernel
theorem dX0_joinTwo_6 : decode cX0_joinTwo 6 = .ok (.isub, 1) := by decide +kernel
theorem dX0_joinTwo_7 : decode cX0_joinTwo 7 = .ok (.putfield 57, 3) := by decide +kernel
theorem dX0_joinTwo_10 : decode cX0_joinTwo 10 = .ok (.aload_n 0, 1) := by decide +kernel
theorem dX0_joinTwo_11 : decode cX0_joinTwo 11 = .ok (.getfield 57, 3) := by decide +kernel
theorem dX0_joinTwo_14 : decode cX0_joinTwo 14 = .ok (.iconst 1, 1) := by decide +kernel
theorem dX0_joinTwo_15 : decode cX0_joinTwo 15 = .ok (.isub, 1) := by decide +kernel
theorem dX0_joinTwo_16 : decode cX0_joinTwo 16 = .ok (.istore_n 1, 1) := by decide +kernel
theorem dX0_joinTwo_17 : decode cX0_joinTwo 17 = .ok (.aload_n 0, 1) := by decide +kernel
theorem dX0_joinTwo_18 : decode cX0_joinTwo 18 = .ok (.getfield 57, 3) := by decide +kernel
theorem dX0_joinTwo_21 : decode cX0_joinTwo 21 = .ok (.istore_n 2, 1) := by decide +kernel
theorem dX0_joinTwo_22 : decode cX0_joinTwo 22 = .ok (.aload_n 0, 1) := by decide +kernel
theorem dX0_joinTwo_23 : decode cX0_joinTwo 23 = .ok (.aload_n 0, 1) := by decide +kernel
theorem dX0_joinTwo_24 : decode cX0_joinTwo 24 = .ok (.getfield 19, 3) := by decide +kernel
theorem dX0_joinTwo_27 : decode cX0_joinTwo 27 = .ok (.iload_n 1, 1) := by decide +kernel
theorem dX0_joinTwo_28 : decode cX0_joinTwo 28 = .ok (.laload, 1) := by decide +kernel
theorem dX0_joinTwo_29 : decode cX0_joinTwo 29 = .ok (.aload_n 0, 1) := by decide +kernel
theorem dX0_joinTwo_30 : decode cX0_joinTwo 30 = .ok (.getfield 16, 3) := by decide +kernel
theorem dX0_joinTwo_33 : decode cX0_joinTwo 33 = .ok (.iload_n 2, 1) := by decide +kernel
theorem dX0_joinTwo_34 : decode cX0_joinTwo 34 = .ok (.laload, 1) := by decide +kernel
theorem dX0_joinTwo_35 : decode cX0_joinTwo 35 = .ok (.invokevirtual 81, 3) := by decide +kernel
theorem dX0_joinTwo_38 : decode cX0_joinTwo 38 = .ok (.aload_n 0, 1) := by decide +kernel
theorem dX0_joinTwo_39 : decode cX0_joinTwo 39 = .ok (.getfield 16, 3) := by decide +kernel
theorem dX0_joinTwo_42 : decode cX0_joinTwo 42 = .ok (.iload_n 1, 1) := by decide +kernel
theorem dX0_joinTwo_43 : decode cX0_joinTwo 43 = .ok (.aload_n 0, 1) := by decide +kernel
theorem dX0_joinTwo_44 : decode cX0_joinTwo 44 = .ok (.getfield 22, 3) := by decide +kernel
theorem dX0_joinTwo_47 : decode cX0_joinTwo 47 = .ok (.iload_n 1, 1) := by decide +kernel
theorem dX0_joinTwo_48 : decode cX0_joinTwo 48 = .ok (.baload, 1) := by decide +kernel
theorem dX0_joinTwo_49 : decode cX0_joinTwo 49 = .ok (.ifCond .eq 19, 3) := by decide +kernel
theorem dX0_joinTwo_52 : decode cX0_joinTwo 52 = .ok (.aload_n 0, 1) := by decide +kernel
theorem dX0_joinTwo_53 : decode cX0_joinTwo 53 = .ok (.getfield 16, 3) := by decide +kernel
theorem dX0_joinTwo_56 : decode cX0_joinTwo 56 = .ok (.iload_n 1, 1) := by decide +kernel
theorem dX0_joinTwo_57 : decode cX0_joinTwo 57 = .ok (.laload, 1) := by decide +kernel
theorem dX0_joinTwo_58 : decode cX0_joinTwo 58 = .ok (.aload_n 0, 1) := by decide +kernel
theorem dX0_joinTwo_59 : decode cX0_joinTwo 59 = .ok (.getfield 16, 3) := by decide +kernel
theorem dX0_joinTwo_62 : decode cX0_joinTwo 62 = .ok (.iload_n 2, 1) := by decide +kernel
theorem dX0_joinTwo_63 : decode cX0_joinTwo 63 = .ok (.laload, 1) := by decide +kernel
theorem dX0_joinTwo_64 : decode cX0_joinTwo 64 = .ok (.lor, 1) := by decide +kernel
theorem dX0_joinTwo_65 : decode cX0_joinTwo 65 = .ok (.goto 9, 3) := by decide +kernel
theorem dX0_joinTwo_68 : decode cX0_joinTwo 68 = .ok (.aload_n 0, 1) := by decide +kernel
theorem dX0_joinTwo_69 : decode cX0_joinTwo 69 = .ok (.getfield 16, 3) := by decide +kernel
theorem dX0_joinTwo_72 : decode cX0_joinTwo 72 = .ok (.iload_n 1, 1) := by decide +kernel
theorem dX0_joinTwo_73 : decode cX0_joinTwo 73 = .ok (.laload, 1) := by decide +kernel
theorem dX0_joinTwo_74 : decode cX0_joinTwo 74 = .ok (.lastore, 1) := by decide +kernel
theorem dX0_joinTwo_75 : decode cX0_joinTwo 75 = .ok (.aload_n 0, 1) := by decide +kernel
theorem dX0_joinTwo_76 : decode cX0_joinTwo 76 = .ok (.getfield 19, 3) := by decide +kernel
theorem dX0_joinTwo_79 : decode cX0_joinTwo 79 = .ok (.iload_n 1, 1) := by decide +kernel
theorem dX0_joinTwo_80 : decode cX0_joinTwo 80 = .ok (.aload_n 0, 1) := by decide +kernel
theorem dX0_joinTwo_81 : decode cX0_joinTwo 81 = .ok (.getfield 22, 3) := by decide +kernel
theorem dX0_joinTwo_84 : decode cX0_joinTwo 84 = .ok (.iload_n 2, 1) := by decide +kernel
theorem dX0_joinTwo_85 : decode cX0_joinTwo 85 = .ok (.baload, 1) := by decide +kernel
theorem dX0_joinTwo_86 : decode cX0_joinTwo 86 = .ok (.ifCond .eq 19, 3) := by decide +kernel
theorem dX0_joinTwo_89 : decode cX0_joinTwo 89 = .ok (.aload_n 0, 1) := by decide +kernel
theorem dX0_joinTwo_90 : decode cX0_joinTwo 90 = .ok (.getfield 19, 3) := by decide +kernel
theorem dX0_joinTwo_93 : decode cX0_joinTwo 93 = .ok (.iload_n 1, 1) := by decide +kernel
theorem dX0_joinTwo_94 : decode cX0_joinTwo 94 = .ok (.laload, 1) := by decide +kernel
theorem dX0_joinTwo_95 : decode cX0_joinTwo 95 = .ok (.aload_n 0, 1) := by decide +kernel
theorem dX0_joinTwo_96 : decode cX0_joinTwo 96 = .ok (.getfield 19, 3) := by decide +kernel
theorem dX0_joinTwo_99 : decode cX0_joinTwo 99 = .ok (.iload_n 2, 1) := by decide +kernel
theorem dX0_joinTwo_100 : decode cX0_joinTwo 100 = .ok (.laload, 1) := by decide +kernel
theorem dX0_joinTwo_101 : decode cX0_joinTwo 101 = .ok (.lor, 1) := by decide +kernel
theorem dX0_joinTwo_102 : decode cX0_joinTwo 102 = .ok (.goto 9, 3) := by decide +kernel
theorem dX0_joinTwo_105 : decode cX0_joinTwo 105 = .ok (.aload_n 0, 1) := by decide +kernel
theorem dX0_joinTwo_106 : decode cX0_joinTwo 106 = .ok (.getfield 19, 3) := by decide +kernel
theorem dX0_joinTwo_109 : decode cX0_joinTwo 109 = .ok (.iload_n 2, 1) := by decide +kernel
theorem dX0_joinTwo_110 : decode cX0_joinTwo 110 = .ok (.laload, 1) := by decide +kernel
theorem dX0_joinTwo_111 : decode cX0_joinTwo 111 = .ok (.lastore, 1) := by decide +kernel
theorem dX0_joinTwo_112 : decode cX0_joinTwo 112 = .ok (.aload_n 0, 1) := by decide +kernel
theorem dX0_joinTwo_113 : decode cX0_joinTwo 113 = .ok (.getfield 22, 3) := by decide +kernel
theorem dX0_joinTwo_116 : decode cX0_joinTwo 116 = .ok (.iload_n 1, 1) := by decide +kernel
theorem dX0_joinTwo_117 : decode cX0_joinTwo 117 = .ok (.aload_n 0, 1) := by decide +kernel
theorem dX0_joinTwo_118 : decode cX0_joinTwo 118 = .ok (.getfield 22, 3) := by decide +kernel
theorem dX0_joinTwo_121 : decode cX0_joinTwo 121 = .ok (.iload_n 1, 1) := by decide +kernel
theorem dX0_joinTwo_122 : decode cX0_joinTwo 122 = .ok (.baload, 1) := by decide +kernel
theorem dX0_joinTwo_123 : decode cX0_joinTwo 123 = .ok (.ifCond .eq 16, 3) := by decide +kernel
theorem dX0_joinTwo_126 : decode cX0_joinTwo 126 = .ok (.aload_n 0, 1) := by decide +kernel
theorem dX0_joinTwo_127 : decode cX0_joinTwo 127 = .ok (.getfield 22, 3) := by decide +kernel
theorem dX0_joinTwo_130 : decode cX0_joinTwo 130 = .ok (.iload_n 2, 1) := by decide +kernel
theorem dX0_joinTwo_131 : decode cX0_joinTwo 131 = .ok (.baload, 1) := by decide +kernel
theorem dX0_joinTwo_132 : decode cX0_joinTwo 132 = .ok (.ifCond .eq 7, 3) := by decide +kernel
theorem dX0_joinTwo_135 : decode cX0_joinTwo 135 = .ok (.iconst 1, 1) := by decide +kernel
theorem dX0_joinTwo_136 : decode cX0_joinTwo 136 = .ok (.goto 4, 3) := by decide +kernel
theorem dX0_joinTwo_139 : decode cX0_joinTwo 139 = .ok (.iconst 0, 1) := by decide +kernel
theorem dX0_joinTwo_140 : decode cX0_joinTwo 140 = .ok (.bastore, 1) := by decide +kernel
theorem dX0_joinTwo_141 : decode cX0_joinTwo 141 = .ok (.return_, 1) := by decide +kernel
theorem dX0_lead_0 : decode cX0_lead 0 = .ok (.iconst 0, 1) := by decide +kernel
theorem dX0_lead_1 : decode cX0_lead 1 = .ok (.istore 5, 2) := by decide +kernel
theorem dX0_lead_3 : decode cX0_lead 3 = .ok (.iload 5, 2) := by decide +kernel
theorem dX0_lead_5 : decode cX0_lead 5 = .ok (.aload_n 0, 1) := by decide +kernel
theorem dX0_lead_6 : decode cX0_lead 6 = .ok (.getfield 85, 3) := by decide +kernel
theorem dX0_lead_9 : decode cX0_lead 9 = .ok (.if_icmp .ge 31, 3) := by decide +kernel
theorem dX0_lead_12 : decode cX0_lead 12 = .ok (.lload_n 1, 1) := by decide +kernel
theorem dX0_lead_13 : decode cX0_lead 13 = .ok (.iload 5, 2) := by decide +kernel
theorem dX0_lead_15 : decode cX0_lead 15 = .ok (.lushr, 1) := by decide +kernel
theorem dX0_lead_16 : decode cX0_lead 16 = .ok (.lconst 1, 1) := by decide +kernel
theorem dX0_lead_17 : decode cX0_lead 17 = .ok (.land, 1) := by decide +kernel
theorem dX0_lead_18 : decode cX0_lead 18 = .ok (.lconst 0, 1) := by decide +kernel
theorem dX0_lead_19 : decode cX0_lead 19 = .ok (.lcmp, 1) := by decide +kernel
theorem dX0_lead_20 : decode cX0_lead 20 = .ok (.ifCond .eq 14, 3) := by decide +kernel
theorem dX0_lead_23 : decode cX0_lead 23 = .ok (.aload_n 0, 1) := by decide +kernel
theorem dX0_lead_24 : decode cX0_lead 24 = .ok (.getfield 7, 3) := by decide +kernel
theorem dX0_lead_27 : decode cX0_lead 27 = .ok (.iload 5, 2) := by decide +kernel
theorem dX0_lead_29 : decode cX0_lead 29 = .ok (.dup2, 1) := by decide +kernel
theorem dX0_lead_30 : decode cX0_lead 30 = .ok (.laload, 1) := by decide +kernel
theorem dX0_lead_31 : decode cX0_lead 31 = .ok (.lload_n 3, 1) := by decide +kernel
theorem dX0_lead_32 : decode cX0_lead 32 = .ok (.lor, 1) := by decide +kernel
theorem dX0_lead_33 : decode cX0_lead 33 = .ok (.lastore, 1) := by decide +kernel
theorem dX0_lead_34 : decode cX0_lead 34 = .ok (.iinc 5 1, 3) := by decide +kernel
theorem dX0_lead_37 : decode cX0_lead 37 = .ok (.goto (-34), 3) := by decide +kernel
theorem dX0_lead_40 : decode cX0_lead 40 = .ok (.return_, 1) := by decide +kernel
theorem dX0_makeRule_0 : decode cX0_makeRule 0 = .ok (.aload_n 0, 1) := by decide +kernel
theorem dX0_makeRule_1 : decode cX0_makeRule 1 = .ok (.dup, 1) := by decide +kernel
theorem dX0_makeRule_2 : decode cX0_makeRule 2 = .ok (.getfield 57, 3) := by decide +kernel
theorem dX0_makeRule_5 : decode cX0_makeRule 5 = .ok (.iconst 1, 1) := by decide +kernel
theorem dX0_makeRule_6 : decode cX0_makeRule 6 = .ok (.isub, 1) := by decide +kernel
theorem dX0_makeRule_7 : decode cX0_makeRule 7 = .ok (.putfield 57, 3) := by decide +kernel
theorem dX0_makeRule_10 : decode cX0_makeRule 10 = .ok (.aload_n 0, 1) := by decide +kernel
theorem dX0_makeRule_11 : decode cX0_makeRule 11 = .ok (.getfield 26, 3) := by decide +kernel
theorem dX0_makeRule_14 : decode cX0_makeRule 14 = .ok (.aload_n 0, 1) := by decide +kernel
theorem dX0_makeRule_15 : decode cX0_makeRule 15 = .ok (.getfield 64, 3) := by decide +kernel
theorem dX0_makeRule_18 : decode cX0_makeRule 18 = .ok (.aload_n 0, 1) := by decide +kernel
theorem dX0_makeRule_19 : decode cX0_makeRule 19 = .ok (.getfield 16, 3) := by decide +kernel
theorem dX0_makeRule_22 : decode cX0_makeRule 22 = .ok (.aload_n 0, 1) := by decide +kernel
theorem dX0_makeRule_23 : decode cX0_makeRule 23 = .ok (.getfield 57, 3) := by decide +kernel
theorem dX0_makeRule_26 : decode cX0_makeRule 26 = .ok (.laload, 1) := by decide +kernel
theorem dX0_makeRule_27 : decode cX0_makeRule 27 = .ok (.lastore, 1) := by decide +kernel
theorem dX0_makeRule_28 : decode cX0_makeRule 28 = .ok (.aload_n 0, 1) := by decide +kernel
theorem dX0_makeRule_29 : decode cX0_makeRule 29 = .ok (.getfield 29, 3) := by decide +kernel
theorem dX0_makeRule_32 : decode cX0_makeRule 32 = .ok (.aload_n 0, 1) := by decide +kernel
theorem dX0_makeRule_33 : decode cX0_makeRule 33 = .ok (.getfield 64, 3) := by decide +kernel
theorem dX0_makeRule_36 : decode cX0_makeRule 36 = .ok (.aload_n 0, 1) := by decide +kernel
theorem dX0_makeRule_37 : decode cX0_makeRule 37 = .ok (.getfield 19, 3) := by decide +kernel
theorem dX0_makeRule_40 : decode cX0_makeRule 40 = .ok (.aload_n 0, 1) := by decide +kernel
theorem dX0_makeRule_41 : decode cX0_makeRule 41 = .ok (.getfield 57, 3) := by decide +kernel
theorem dX0_makeRule_44 : decode cX0_makeRule 44 = .ok (.laload, 1) := by decide +kernel
theorem dX0_makeRule_45 : decode cX0_makeRule 45 = .ok (.lastore, 1) := by decide +kernel
theorem dX0_makeRule_46 : decode cX0_makeRule 46 = .ok (.aload_n 0, 1) := by decide +kernel
theorem dX0_makeRule_47 : decode cX0_makeRule 47 = .ok (.getfield 32, 3) := by decide +kernel
theorem dX0_makeRule_50 : decode cX0_makeRule 50 = .ok (.aload_n 0, 1) := by decide +kernel
theorem dX0_makeRule_51 : decode cX0_makeRule 51 = .ok (.getfield 64, 3) := by decide +kernel
theorem dX0_makeRule_54 : decode cX0_makeRule 54 = .ok (.aload_n 0, 1) := by decide +kernel
theorem dX0_makeRule_55 : decode cX0_makeRule 55 = .ok (.getfield 22, 3) := by decide +kernel
theorem dX0_makeRule_58 : decode cX0_makeRule 58 = .ok (.aload_n 0, 1) := by decide +kernel
theorem dX0_makeRule_59 : decode cX0_makeRule 59 = .ok (.getfield 57, 3) := by decide +kernel
theorem dX0_makeRule_62 : decode cX0_makeRule 62 = .ok (.baload, 1) := by decide +kernel
theorem dX0_makeRule_63 : decode cX0_makeRule 63 = .ok (.bastore, 1) := by decide +kernel
theorem dX0_makeRule_64 : decode cX0_makeRule 64 = .ok (.aload_n 0, 1) := by decide +kernel
theorem dX0_makeRule_65 : decode cX0_makeRule 65 = .ok (.dup, 1) := by decide +kernel
theorem dX0_makeRule_66 : decode cX0_makeRule 66 = .ok (.getfield 64, 3) := by decide +kernel
theorem dX0_makeRule_69 : decode cX0_makeRule 69 = .ok (.iconst 1, 1) := by decide +kernel
theorem dX0_makeRule_70 : decode cX0_makeRule 70 = .ok (.iadd, 1) := by decide +kernel
theorem dX0_makeRule_71 : decode cX0_makeRule 71 = .ok (.putfield 64, 3) := by decide +kernel
theorem dX0_makeRule_74 : decode cX0_makeRule 74 = .ok (.aload_n 0, 1) := by decide +kernel
theorem dX0_makeRule_75 : decode cX0_makeRule 75 = .ok (.invokevirtual 54, 3) := by decide +kernel
theorem dX0_makeRule_78 : decode cX0_makeRule 78 = .ok (.return_, 1) := by decide +kernel
theorem dX0_clear_0 : decode cX0_clear 0 = .ok (.aload_n 0, 1) := by decide +kernel
theorem dX0_clear_1 : decode cX0_clear 1 = .ok (.iconst 0, 1) := by decide +kernel
theorem dX0_clear_2 : decode cX0_clear 2 = .ok (.putfield 61, 3) := by decide +kernel
theorem dX0_clear_5 : decode cX0_clear 5 = .ok (.aload_n 0, 1) := by decide +kernel
theorem dX0_clear_6 : decode cX0_clear 6 = .ok (.iconst 0, 1) := by decide +kernel
theorem dX0_clear_7 : decode cX0_clear 7 = .ok (.putfield 85, 3) := by decide +kernel
theorem dX0_clear_10 : decode cX0_clear 10 = .ok (.aload_n 0, 1) := by decide +kernel
theorem dX0_clear_11 : decode cX0_clear 11 = .ok (.iconst 0, 1) := by decide +kernel
theorem dX0_clear_12 : decode cX0_clear 12 = .ok (.putfield 57, 3) := by decide +kernel
theorem dX0_clear_15 : decode cX0_clear 15 = .ok (.aload_n 0, 1) := by decide +kernel
theorem dX0_clear_16 : decode cX0_clear 16 = .ok (.iconst 0, 1) := by decide +kernel
theorem dX0_clear_17 : decode cX0_clear 17 = .ok (.putfield 64, 3) := by decide +kernel
theorem dX0_clear_20 : decode cX0_clear 20 = .ok (.iconst 0, 1) := by decide +kernel
theorem dX0_clear_21 : decode cX0_clear 21 = .ok (.istore_n 1, 1) := by decide +kernel
theorem dX0_clear_22 : decode cX0_clear 22 = .ok (.iload_n 1, 1) := by decide +kernel
theorem dX0_clear_23 : decode cX0_clear 23 = .ok (.iconst 4, 1) := by decide +kernel
theorem dX0_clear_24 : decode cX0_clear 24 = .ok (.if_icmp .ge 16, 3) := by decide +kernel
theorem dX0_clear_27 : decode cX0_clear 27 = .ok (.aload_n 0, 1) := by decide +kernel
theorem dX0_clear_28 : decode cX0_clear 28 = .ok (.getfield 13, 3) := by decide +kernel
theorem dX0_clear_31 : decode cX0_clear 31 = .ok (.iload_n 1, 1) := by decide +kernel
theorem dX0_clear_32 : decode cX0_clear 32 = .ok (.lconst 0, 1) := by decide +kernel
theorem dX0_clear_33 : decode cX0_clear 33 = .ok (.lastore, 1) := by decide +kernel
theorem dX0_clear_34 : decode cX0_clear 34 = .ok (.iinc 1 1, 3) := by decide +kernel
theorem dX0_clear_37 : decode cX0_clear 37 = .ok (.goto (-15), 3) := by decide +kernel
theorem dX0_clear_40 : decode cX0_clear 40 = .ok (.aload_n 0, 1) := by decide +kernel
theorem dX0_clear_41 : decode cX0_clear 41 = .ok (.invokevirtual 54, 3) := by decide +kernel
theorem dX0_clear_44 : decode cX0_clear 44 = .ok (.return_, 1) := by decide +kernel
theorem dX0_type_0 : decode cX0_type 0 = .ok (.aload_n 0, 1) := by decide +kernel
theorem dX0_type_1 : decode cX0_type 1 = .ok (.getfield 88, 3) := by decide +kernel
theorem dX0_type_4 : decode cX0_type 4 = .ok (.bipush 30, 2) := by decide +kernel
theorem dX0_type_6 : decode cX0_type 6 = .ok (.if_icmp .lt 5, 3) := by decide +kernel
theorem dX0_type_9 : decode cX0_type 9 = .ok (.iconst (-1), 1) := by decide +kernel
theorem dX0_type_10 : decode cX0_type 10 = .ok (.ireturn, 1) := by decide +kernel
theorem dX0_type_11 : decode cX0_type 11 = .ok (.aload_n 0, 1) := by decide +kernel
theorem dX0_type_12 : decode cX0_type 12 = .ok (.getfield 45, 3) := by decide +kernel
theorem dX0_type_15 : decode cX0_type 15 = .ok (.aload_n 0, 1) := by decide +kernel
theorem dX0_type_16 : decode cX0_type 16 = .ok (.getfield 88, 3) := by decide +kernel
theorem dX0_type_19 : decode cX0_type 19 = .ok (.iload_n 1, 1) := by decide +kernel
theorem dX0_type_20 : decode cX0_type 20 = .ok (.iconst 3, 1) := by decide +kernel
theorem dX0_type_21 : decode cX0_type 21 = .ok (.iand, 1) := by decide +kernel
theorem dX0_type_22 : decode cX0_type 22 = .ok (.iastore, 1) := by decide +kernel
theorem dX0_type_23 : decode cX0_type 23 = .ok (.aload_n 0, 1) := by decide +kernel
theorem dX0_type_24 : decode cX0_type 24 = .ok (.dup, 1) := by decide +kernel
theorem dX0_type_25 : decode cX0_type 25 = .ok (.getfield 88, 3) := by decide +kernel
theorem dX0_type_28 : decode cX0_type 28 = .ok (.iconst 1, 1) := by decide +kernel
theorem dX0_type_29 : decode cX0_type 29 = .ok (.iadd, 1) := by decide +kernel
theorem dX0_type_30 : decode cX0_type 30 = .ok (.putfield 88, 3) := by decide +kernel
theorem dX0_type_33 : decode cX0_type 33 = .ok (.aload_n 0, 1) := by decide +kernel
theorem dX0_type_34 : decode cX0_type 34 = .ok (.getfield 88, 3) := by decide +kernel
theorem dX0_type_37 : decode cX0_type 37 = .ok (.ireturn, 1) := by decide +kernel
theorem dX0_erase_0 : decode cX0_erase 0 = .ok (.aload_n 0, 1) := by decide +kernel
theorem dX0_erase_1 : decode cX0_erase 1 = .ok (.iconst 0, 1) := by decide +kernel
theorem dX0_erase_2 : decode cX0_erase 2 = .ok (.putfield 88, 3) := by decide +kernel
theorem dX0_erase_5 : decode cX0_erase 5 = .ok (.return_, 1) := by decide +kernel
theorem dX0_words_0 : decode cX0_words 0 = .ok (.aload_n 0, 1) := by decide +kernel
theorem dX0_words_1 : decode cX0_words 1 = .ok (.invokevirtual 91, 3) := by decide +kernel
theorem dX0_words_4 : decode cX0_words 4 = .ok (.aload_n 0, 1) := by decide +kernel
theorem dX0_words_5 : decode cX0_words 5 = .ok (.getfield 94, 3) := by decide +kernel
theorem dX0_words_8 : decode cX0_words 8 = .ok (.ireturn, 1) := by decide +kernel
theorem dX0_cut_0 : decode cX0_cut 0 = .ok (.aload_n 0, 1) := by decide +kernel
theorem dX0_cut_1 : decode cX0_cut 1 = .ok (.iconst 0, 1) := by decide +kernel
theorem dX0_cut_2 : decode cX0_cut 2 = .ok (.putfield 94, 3) := by decide +kernel
theorem dX0_cut_5 : decode cX0_cut 5 = .ok (.iconst 0, 1) := by decide +kernel
theorem dX0_cut_6 : decode cX0_cut 6 = .ok (.istore_n 1, 1) := by decide +kernel
theorem dX0_cut_7 : decode cX0_cut 7 = .ok (.iconst 0, 1) := by decide +kernel
theorem dX0_cut_8 : decode cX0_cut 8 = .ok (.istore_n 2, 1) := by decide +kernel
theorem dX0_cut_9 : decode cX0_cut 9 = .ok (.iload_n 2, 1) := by decide +kernel
theorem dX0_cut_10 : decode cX0_cut 10 = .ok (.bipush 30, 2) := by decide +kernel
theorem dX0_cut_12 : decode cX0_cut 12 = .ok (.if_icmp .ge 44, 3) := by decide +kernel
theorem dX0_cut_15 : decode cX0_cut 15 = .ok (.iload_n 1, 1) := by decide +kernel
theorem dX0_cut_16 : decode cX0_cut 16 = .ok (.aload_n 0, 1) := by decide +kernel
theorem dX0_cut_17 : decode cX0_cut 17 = .ok (.getfield 88, 3) := by decide +kernel
theorem dX0_cut_20 : decode cX0_cut 20 = .ok (.if_icmp .ge 36, 3) := by decide +kernel
theorem dX0_cut_23 : decode cX0_cut 23 = .ok (.aload_n 0, 1) := by decide +kernel
theorem dX0_cut_24 : decode cX0_cut 24 = .ok (.iload_n 1, 1) := by decide +kernel
theorem dX0_cut_25 : decode cX0_cut 25 = .ok (.invokevirtual 123, 3) := by decide +kernel
theorem dX0_cut_28 : decode cX0_cut 28 = .ok (.iload_n 1, 1) := by decide +kernel
theorem dX0_cut_29 : decode cX0_cut 29 = .ok (.aload_n 0, 1) := by decide +kernel
theorem dX0_cut_30 : decode cX0_cut 30 = .ok (.getfield 51, 3) := by decide +kernel
theorem dX0_cut_33 : decode cX0_cut 33 = .ok (.aload_n 0, 1) := by decide +kernel
theorem dX0_cut_34 : decode cX0_cut 34 = .ok (.getfield 94, 3) := by decide +kernel
theorem dX0_cut_37 : decode cX0_cut 37 = .ok (.iaload, 1) := by decide +kernel
theorem dX0_cut_38 : decode cX0_cut 38 = .ok (.iadd, 1) := by decide +kernel
theorem dX0_cut_39 : decode cX0_cut 39 = .ok (.istore_n 1, 1) := by decide +kernel
theorem dX0_cut_40 : decode cX0_cut 40 = .ok (.aload_n 0, 1) := by decide +kernel
theorem dX0_cut_41 : decode cX0_cut 41 = .ok (.dup, 1) := by decide +kernel
theorem dX0_cut_42 : decode cX0_cut 42 = .ok (.getfield 94, 3) := by decide +kernel
theorem dX0_cut_45 : decode cX0_cut 45 = .ok (.iconst 1, 1) := by decide +kernel
theorem dX0_cut_46 : decode cX0_cut 46 = .ok (.iadd, 1) := by decide +kernel
theorem dX0_cut_47 : decode cX0_cut 47 = .ok (.putfield 94, 3) := by decide +kernel
theorem dX0_cut_50 : decode cX0_cut 50 = .ok (.iinc 2 1, 3) := by decide +kernel
theorem dX0_cut_53 : decode cX0_cut 53 = .ok (.goto (-44), 3) := by decide +kernel
theorem dX0_cut_56 : decode cX0_cut 56 = .ok (.return_, 1) := by decide +kernel
theorem dX0_cutWord_0 : decode cX0_cutWord 0 = .ok (.aload_n 0, 1) := by decide +kernel
theorem dX0_cutWord_1 : decode cX0_cutWord 1 = .ok (.getfield 48, 3) := by decide +kernel
theorem dX0_cutWord_4 : decode cX0_cutWord 4 = .ok (.aload_n 0, 1) := by decide +kernel
theorem dX0_cutWord_5 : decode cX0_cutWord 5 = .ok (.getfield 94, 3) := by decide +kernel
theorem dX0_cutWord_8 : decode cX0_cutWord 8 = .ok (.iconst (-1), 1) := by decide +kernel
theorem dX0_cutWord_9 : decode cX0_cutWord 9 = .ok (.iastore, 1) := by decide +kernel
theorem dX0_cutWord_10 : decode cX0_cutWord 10 = .ok (.aload_n 0, 1) := by decide +kernel
theorem dX0_cutWord_11 : decode cX0_cutWord 11 = .ok (.getfield 51, 3) := by decide +kernel
theorem dX0_cutWord_14 : decode cX0_cutWord 14 = .ok (.aload_n 0, 1) := by decide +kernel
theorem dX0_cutWord_15 : decode cX0_cutWord 15 = .ok (.getfield 94, 3) := by decide +kernel
theorem dX0_cutWord_18 : decode cX0_cutWord 18 = .ok (.iconst 1, 1) := by decide +kernel
theorem dX0_cutWord_19 : decode cX0_cutWord 19 = .ok (.iastore, 1) := by decide +kernel
theorem dX0_cutWord_20 : decode cX0_cutWord 20 = .ok (.iconst 0, 1) := by decide +kernel
theorem dX0_cutWord_21 : decode cX0_cutWord 21 = .ok (.istore_n 2, 1) := by decide +kernel
theorem dX0_cutWord_22 : decode cX0_cutWord 22 = .ok (.iload_n 1, 1) := by decide +kernel
theorem dX0_cutWord_23 : decode cX0_cutWord 23 = .ok (.istore_n 3, 1) := by decide +kernel
theorem dX0_cutWord_24 : decode cX0_cutWord 24 = .ok (.iload_n 3, 1) := by decide +kernel
theorem dX0_cutWord_25 : decode cX0_cutWord 25 = .ok (.aload_n 0, 1) := by decide +kernel
theorem dX0_cutWord_26 : decode cX0_cutWord 26 = .ok (.getfield 88, 3) := by decide +kernel
theorem dX0_cutWord_29 : decode cX0_cutWord 29 = .ok (.if_icmp .ge 74, 3) := by decide +kernel
theorem dX0_cutWord_32 : decode cX0_cutWord 32 = .ok (.iload_n 2, 1) := by decide +kernel
theorem dX0_cutWord_33 : decode cX0_cutWord 33 = .ok (.ifCond .eq 14, 3) := by decide +kernel
theorem dX0_cutWord_36 : decode cX0_cutWord 36 = .ok (.aload_n 0, 1) := by decide +kernel
theorem dX0_cutWord_37 : decode cX0_cutWord 37 = .ok (.getfield 35, 3) := by decide +kernel
theorem dX0_cutWord_40 : decode cX0_cutWord 40 = .ok (.iload_n 2, 1) := by decide +kernel
theorem dX0_cutWord_41 : decode cX0_cutWord 41 = .ok (.laload, 1) := by decide +kernel
theorem dX0_cutWord_42 : decode cX0_cutWord 42 = .ok (.lconst 0, 1) := by decide +kernel
theorem dX0_cutWord_43 : decode cX0_cutWord 43 = .ok (.lcmp, 1) := by decide +kernel
theorem dX0_cutWord_44 : decode cX0_cutWord 44 = .ok (.ifCond .eq 59, 3) := by decide +kernel
theorem dX0_cutWord_47 : decode cX0_cutWord 47 = .ok (.aload_n 0, 1) := by decide +kernel
theorem dX0_cutWord_48 : decode cX0_cutWord 48 = .ok (.iload_n 2, 1) := by decide +kernel
theorem dX0_cutWord_49 : decode cX0_cutWord 49 = .ok (.aload_n 0, 1) := by decide +kernel
theorem dX0_cutWord_50 : decode cX0_cutWord 50 = .ok (.getfield 45, 3) := by decide +kernel
theorem dX0_cutWord_53 : decode cX0_cutWord 53 = .ok (.iload_n 3, 1) := by decide +kernel
theorem dX0_cutWord_54 : decode cX0_cutWord 54 = .ok (.iaload, 1) := by decide +kernel
theorem dX0_cutWord_55 : decode cX0_cutWord 55 = .ok (.invokevirtual 105, 3) := by decide +kernel
theorem dX0_cutWord_58 : decode cX0_cutWord 58 = .ok (.istore_n 2, 1) := by decide +kernel
theorem dX0_cutWord_59 : decode cX0_cutWord 59 = .ok (.aload_n 0, 1) := by decide +kernel
theorem dX0_cutWord_60 : decode cX0_cutWord 60 = .ok (.getfield 42, 3) := by decide +kernel
theorem dX0_cutWord_63 : decode cX0_cutWord 63 = .ok (.iload_n 2, 1) := by decide +kernel
theorem dX0_cutWord_64 : decode cX0_cutWord 64 = .ok (.iaload, 1) := by decide +kernel
theorem dX0_cutWord_65 : decode cX0_cutWord 65 = .ok (.ifCond .lt 32, 3) := by decide +kernel
theorem dX0_cutWord_68 : decode cX0_cutWord 68 = .ok (.aload_n 0, 1) := by decide +kernel
theorem dX0_cutWord_69 : decode cX0_cutWord 69 = .ok (.getfield 48, 3) := by decide +kernel
theorem dX0_cutWord_72 : decode cX0_cutWord 72 = .ok (.aload_n 0, 1) := by decide +kernel
theorem dX0_cutWord_73 : decode cX0_cutWord 73 = .ok (.getfield 94, 3) := by decide +kernel
theorem dX0_cutWord_76 : decode cX0_cutWord 76 = .ok (.aload_n 0, 1) := by decide +kernel
theorem dX0_cutWord_77 : decode cX0_cutWord 77 = .ok (.getfield 42, 3) := by decide +kernel
theorem dX0_cutWord_80 : decode cX0_cutWord 80 = .ok (.iload_n 2, 1) := by decide +kernel
theorem dX0_cutWord_81 : decode cX0_cutWord 81 = .ok (.iaload, 1) := by decide +kernel
theorem dX0_cutWord_82 : decode cX0_cutWord 82 = .ok (.iastore, 1) := by decide +kernel
theorem dX0_cutWord_83 : decode cX0_cutWord 83 = .ok (.aload_n 0, 1) := by decide +kernel
theorem dX0_cutWord_84 : decode cX0_cutWord 84 = .ok (.getfield 51, 3) := by decide +kernel
theorem dX0_cutWord_87 : decode cX0_cutWord 87 = .ok (.aload_n 0, 1) := by decide +kernel
theorem dX0_cutWord_88 : decode cX0_cutWord 88 = .ok (.getfield 94, 3) := by decide +kernel
theorem dX0_cutWord_91 : decode cX0_cutWord 91 = .ok (.iload_n 3, 1) := by decide +kernel
theorem dX0_cutWord_92 : decode cX0_cutWord 92 = .ok (.iconst 1, 1) := by decide +kernel
theorem dX0_cutWord_93 : decode cX0_cutWord 93 = .ok (.iadd, 1) := by decide +kernel
theorem dX0_cutWord_94 : decode cX0_cutWord 94 = .ok (.iload_n 1, 1) := by decide +kernel
theorem dX0_cutWord_95 : decode cX0_cutWord 95 = .ok (.isub, 1) := by decide +kernel
theorem dX0_cutWord_96 : decode cX0_cutWord 96 = .ok (.iastore, 1) := by decide +kernel
theorem dX0_cutWord_97 : decode cX0_cutWord 97 = .ok (.iinc 3 1, 3) := by decide +kernel
theorem dX0_cutWord_100 : decode cX0_cutWord 100 = .ok (.goto (-76), 3) := by decide +kernel
theorem dX0_cutWord_103 : decode cX0_cutWord 103 = .ok (.return_, 1) := by decide +kernel
theorem dX0_step_0 : decode cX0_step 0 = .ok (.aload_n 0, 1) := by decide +kernel
theorem dX0_step_1 : decode cX0_step 1 = .ok (.getfield 38, 3) := by decide +kernel
theorem dX0_step_4 : decode cX0_step 4 = .ok (.iconst 4, 1) := by decide +kernel
theorem dX0_step_5 : decode cX0_step 5 = .ok (.iload_n 1, 1) := by decide +kernel
theorem dX0_step_6 : decode cX0_step 6 = .ok (.imul, 1) := by decide +kernel
theorem dX0_step_7 : decode cX0_step 7 = .ok (.iload_n 2, 1) := by decide +kernel
theorem dX0_step_8 : decode cX0_step 8 = .ok (.iadd, 1) := by decide +kernel
theorem dX0_step_9 : decode cX0_step 9 = .ok (.iaload, 1) := by decide +kernel
theorem dX0_step_10 : decode cX0_step 10 = .ok (.ifCond .lt 14, 3) := by decide +kernel
theorem dX0_step_13 : decode cX0_step 13 = .ok (.aload_n 0, 1) := by decide +kernel
theorem dX0_step_14 : decode cX0_step 14 = .ok (.getfield 38, 3) := by decide +kernel
theorem dX0_step_17 : decode cX0_step 17 = .ok (.iconst 4, 1) := by decide +kernel
theorem dX0_step_18 : decode cX0_step 18 = .ok (.iload_n 1, 1) := by decide +kernel
theorem dX0_step_19 : decode cX0_step 19 = .ok (.imul, 1) := by decide +kernel
theorem dX0_step_20 : decode cX0_step 20 = .ok (.iload_n 2, 1) := by decide +kernel
theorem dX0_step_21 : decode cX0_step 21 = .ok (.iadd, 1) := by decide +kernel
theorem dX0_step_22 : decode cX0_step 22 = .ok (.iaload, 1) := by decide +kernel
theorem dX0_step_23 : decode cX0_step 23 = .ok (.ireturn, 1) := by decide +kernel
theorem dX0_step_24 : decode cX0_step 24 = .ok (.iload_n 1, 1) := by decide +kernel
theorem dX0_step_25 : decode cX0_step 25 = .ok (.ifCond .ne 10, 3) := by decide +kernel
theorem dX0_step_28 : decode cX0_step 28 = .ok (.aload_n 0, 1) := by decide +kernel
theorem dX0_step_29 : decode cX0_step 29 = .ok (.invokevirtual 112, 3) := by decide +kernel
theorem dX0_step_32 : decode cX0_step 32 = .ok (.goto 13, 3) := by decide +kernel
theorem dX0_step_35 : decode cX0_step 35 = .ok (.aload_n 0, 1) := by decide +kernel
theorem dX0_step_36 : decode cX0_step 36 = .ok (.aload_n 0, 1) := by decide +kernel
theorem dX0_step_37 : decode cX0_step 37 = .ok (.getfield 35, 3) := by decide +kernel
theorem dX0_step_40 : decode cX0_step 40 = .ok (.iload_n 1, 1) := by decide +kernel
theorem dX0_step_41 : decode cX0_step 41 = .ok (.laload, 1) := by decide +kernel
theorem dX0_step_42 : decode cX0_step 42 = .ok (.invokevirtual 97, 3) := by decide +kernel
theorem dX0_step_45 : decode cX0_step 45 = .ok (.lstore_n 3, 1) := by decide +kernel
theorem dX0_step_46 : decode cX0_step 46 = .ok (.aload_n 0, 1) := by decide +kernel
theorem dX0_step_47 : decode cX0_step 47 = .ok (.lload_n 3, 1) := by decide +kernel
theorem dX0_step_48 : decode cX0_step 48 = .ok (.iload_n 2, 1) := by decide +kernel
theorem dX0_step_49 : decode cX0_step 49 = .ok (.invokevirtual 101, 3) := by decide +kernel
theorem dX0_step_52 : decode cX0_step 52 = .ok (.lstore 5, 2) := by decide +kernel
theorem dX0_step_54 : decode cX0_step 54 = .ok (.aload_n 0, 1) := by decide +kernel
theorem dX0_step_55 : decode cX0_step 55 = .ok (.lload 5, 2) := by decide +kernel
theorem dX0_step_57 : decode cX0_step 57 = .ok (.invokevirtual 116, 3) := by decide +kernel
theorem dX0_step_60 : decode cX0_step 60 = .ok (.istore 7, 2) := by decide +kernel
theorem dX0_step_62 : decode cX0_step 62 = .ok (.iload 7, 2) := by decide +kernel
theorem dX0_step_64 : decode cX0_step 64 = .ok (.ifCond .ge 23, 3) := by decide +kernel
theorem dX0_step_67 : decode cX0_step 67 = .ok (.aload_n 0, 1) := by decide +kernel
theorem dX0_step_68 : decode cX0_step 68 = .ok (.getfield 109, 3) := by decide +kernel
theorem dX0_step_71 : decode cX0_step 71 = .ok (.bipush 48, 2) := by decide +kernel
theorem dX0_step_73 : decode cX0_step 73 = .ok (.if_icmp .lt 14, 3) := by decide +kernel
theorem dX0_step_76 : decode cX0_step 76 = .ok (.aload_n 0, 1) := by decide +kernel
theorem dX0_step_77 : decode cX0_step 77 = .ok (.invokevirtual 54, 3) := by decide +kernel
theorem dX0_step_80 : decode cX0_step 80 = .ok (.aload_n 0, 1) := by decide +kernel
theorem dX0_step_81 : decode cX0_step 81 = .ok (.lload 5, 2) := by decide +kernel
theorem dX0_step_83 : decode cX0_step 83 = .ok (.invokevirtual 120, 3) := by decide +kernel
theorem dX0_step_86 : decode cX0_step 86 = .ok (.ireturn, 1) := by decide +kernel
theorem dX0_step_87 : decode cX0_step 87 = .ok (.iload 7, 2) := by decide +kernel
theorem dX0_step_89 : decode cX0_step 89 = .ok (.ifCond .ge 12, 3) := by decide +kernel
theorem dX0_step_92 : decode cX0_step 92 = .ok (.aload_n 0, 1) := by decide +kernel
theorem dX0_step_93 : decode cX0_step 93 = .ok (.lload 5, 2) := by decide +kernel
theorem dX0_step_95 : decode cX0_step 95 = .ok (.invokevirtual 120, 3) := by decide +kernel
theorem dX0_step_98 : decode cX0_step 98 = .ok (.goto 5, 3) := by decide +kernel
theorem dX0_step_101 : decode cX0_step 101 = .ok (.iload 7, 2) := by decide +kernel
theorem dX0_step_103 : decode cX0_step 103 = .ok (.istore 7, 2) := by decide +kernel
theorem dX0_step_105 : decode cX0_step 105 = .ok (.aload_n 0, 1) := by decide +kernel
theorem dX0_step_106 : decode cX0_step 106 = .ok (.getfield 38, 3) := by decide +kernel
theorem dX0_step_109 : decode cX0_step 109 = .ok (.iconst 4, 1) := by decide +kernel
theorem dX0_step_110 : decode cX0_step 110 = .ok (.iload_n 1, 1) := by decide +kernel
theorem dX0_step_111 : decode cX0_step 111 = .ok (.imul, 1) := by decide +kernel
theorem dX0_step_112 : decode cX0_step 112 = .ok (.iload_n 2, 1) := by decide +kernel
theorem dX0_step_113 : decode cX0_step 113 = .ok (.iadd, 1) := by decide +kernel
theorem dX0_step_114 : decode cX0_step 114 = .ok (.iload 7, 2) := by decide +kernel
theorem dX0_step_116 : decode cX0_step 116 = .ok (.iastore, 1) := by decide +kernel
theorem dX0_step_117 : decode cX0_step 117 = .ok (.iload 7, 2) := by decide +kernel
theorem dX0_step_119 : decode cX0_step 119 = .ok (.ireturn, 1) := by decide +kernel
theorem dX0_allFirst_0 : decode cX0_allFirst 0 = .ok (.lconst 0, 1) := by decide +kernel
theorem dX0_allFirst_1 : decode cX0_allFirst 1 = .ok (.lstore_n 1, 1) := by decide +kernel
theorem dX0_allFirst_2 : decode cX0_allFirst 2 = .ok (.iconst 0, 1) := by decide +kernel
theorem dX0_allFirst_3 : decode cX0_allFirst 3 = .ok (.istore_n 3, 1) := by decide +kernel
theorem dX0_allFirst_4 : decode cX0_allFirst 4 = .ok (.iload_n 3, 1) := by decide +kernel
theorem dX0_allFirst_5 : decode cX0_allFirst 5 = .ok (.aload_n 0, 1) := by decide +kernel
theorem dX0_allFirst_6 : decode cX0_allFirst 6 = .ok (.getfield 64, 3) := by decide +kernel
theorem dX0_allFirst_9 : decode cX0_allFirst 9 = .ok (.if_icmp .ge 18, 3) := by decide +kernel
theorem dX0_allFirst_12 : decode cX0_allFirst 12 = .ok (.lload_n 1, 1) := by decide +kernel
theorem dX0_allFirst_13 : decode cX0_allFirst 13 = .ok (.aload_n 0, 1) := by decide +kernel
theorem dX0_allFirst_14 : decode cX0_allFirst 14 = .ok (.getfield 26, 3) := by decide +kernel
theorem dX0_allFirst_17 : decode cX0_allFirst 17 = .ok (.iload_n 3, 1) := by decide +kernel
theorem dX0_allFirst_18 : decode cX0_allFirst 18 = .ok (.laload, 1) := by decide +kernel
theorem dX0_allFirst_19 : decode cX0_allFirst 19 = .ok (.lor, 1) := by decide +kernel
theorem dX0_allFirst_20 : decode cX0_allFirst 20 = .ok (.lstore_n 1, 1) := by decide +kernel
theorem dX0_allFirst_21 : decode cX0_allFirst 21 = .ok (.iinc 3 1, 3) := by decide +kernel
theorem dX0_allFirst_24 : decode cX0_allFirst 24 = .ok (.goto (-20), 3) := by decide +kernel
theorem dX0_allFirst_27 : decode cX0_allFirst 27 = .ok (.lload_n 1, 1) := by decide +kernel
theorem dX0_allFirst_28 : decode cX0_allFirst 28 = .ok (.lreturn, 1) := by decide +kernel
end
section
set_option maxRecDepth 100000
theorem dX0_following_0 : decode cX0_following 0 = .ok (.lconst 0, 1) := by decide +kernel
theorem dX0_following_1 : decode cX0_following 1 = .ok (.lstore_n 3, 1) := by decide +kernel
theorem dX0_following_2 : decode cX0_following 2 = .ok (.iconst 0, 1) := by decide +kernel
theorem dX0_following_3 : decode cX0_following 3 = .ok (.istore 5, 2) := by decide +kernel
theorem dX0_following_5 : decode cX0_following 5 = .ok (.iload 5, 2) := by decide +kernel
theorem dX0_following_7 : decode cX0_following 7 = .ok (.aload_n 0, 1) := by decide +kernel
theorem dX0_following_8 : decode cX0_following 8 = .ok (.getfield 85, 3) := by decide +kernel
theorem dX0_following_11 : decode cX0_following 11 = .ok (.if_icmp .ge 34, 3) := by decide +kernel
theorem dX0_following_14 : decode cX0_following 14 = .ok (.lload_n 3, 1) := by decide +kernel
theorem dX0_following_15 : decode cX0_following 15 = .ok (.lload_n 1, 1) := by decide +kernel
theorem dX0_following_16 : decode cX0_following 16 = .ok (.iload 5, 2) := by decide +kernel
theorem dX0_following_18 : decode cX0_following 18 = .ok (.lushr, 1) := by decide +kernel
theorem dX0_following_19 : decode cX0_following 19 = .ok (.lconst 1, 1) := by decide +kernel
theorem dX0_following_20 : decode cX0_following 20 = .ok (.land, 1) := by decide +kernel
theorem dX0_following_21 : decode cX0_following 21 = .ok (.lconst 0, 1) := by decide +kernel
theorem dX0_following_22 : decode cX0_following 22 = .ok (.lcmp, 1) := by decide +kernel
theorem dX0_following_23 : decode cX0_following 23 = .ok (.ifCond .eq 13, 3) := by decide +kernel
theorem dX0_following_26 : decode cX0_following 26 = .ok (.aload_n 0, 1) := by decide +kernel
theorem dX0_following_27 : decode cX0_following 27 = .ok (.getfield 7, 3) := by decide +kernel
theorem dX0_following_30 : decode cX0_following 30 = .ok (.iload 5, 2) := by decide +kernel
theorem dX0_following_32 : decode cX0_following 32 = .ok (.laload, 1) := by decide +kernel
theorem dX0_following_33 : decode cX0_following 33 = .ok (.goto 4, 3) := by decide +kernel
theorem dX0_following_36 : decode cX0_following 36 = .ok (.lconst 0, 1) := by decide +kernel
theorem dX0_following_37 : decode cX0_following 37 = .ok (.lor, 1) := by decide +kernel
theorem dX0_following_38 : decode cX0_following 38 = .ok (.lstore_n 3, 1) := by decide +kernel
theorem dX0_following_39 : decode cX0_following 39 = .ok (.iinc 5 1, 3) := by decide +kernel
theorem dX0_following_42 : decode cX0_following 42 = .ok (.goto (-37), 3) := by decide +kernel
theorem dX0_following_45 : decode cX0_following 45 = .ok (.lload_n 3, 1) := by decide +kernel
theorem dX0_following_46 : decode cX0_following 46 = .ok (.lreturn, 1) := by decide +kernel
theorem dX0_advance_0 : decode cX0_advance 0 = .ok (.lload_n 1, 1) := by decide +kernel
theorem dX0_advance_1 : decode cX0_advance 1 = .ok (.aload_n 0, 1) := by decide +kernel
theorem dX0_advance_2 : decode cX0_advance 2 = .ok (.getfield 13, 3) := by decide +kernel
theorem dX0_advance_5 : decode cX0_advance 5 = .ok (.iload_n 3, 1) := by decide +kernel
theorem dX0_advance_6 : decode cX0_advance 6 = .ok (.laload, 1) := by decide +kernel
theorem dX0_advance_7 : decode cX0_advance 7 = .ok (.land, 1) := by decide +kernel
theorem dX0_advance_8 : decode cX0_advance 8 = .ok (.lreturn, 1) := by decide +kernel
theorem dX0_findState_0 : decode cX0_findState 0 = .ok (.iconst 1, 1) := by decide +kernel
theorem dX0_findState_1 : decode cX0_findState 1 = .ok (.istore_n 3, 1) := by decide +kernel
theorem dX0_findState_2 : decode cX0_findState 2 = .ok (.iload_n 3, 1) := by decide +kernel
theorem dX0_findState_3 : decode cX0_findState 3 = .ok (.aload_n 0, 1) := by decide +kernel
theorem dX0_findState_4 : decode cX0_findState 4 = .ok (.getfield 109, 3) := by decide +kernel
theorem dX0_findState_7 : decode cX0_findState 7 = .ok (.if_icmp .ge 22, 3) := by decide +kernel
theorem dX0_findState_10 : decode cX0_findState 10 = .ok (.aload_n 0, 1) := by decide +kernel
theorem dX0_findState_11 : decode cX0_findState 11 = .ok (.getfield 35, 3) := by decide +kernel
theorem dX0_findState_14 : decode cX0_findState 14 = .ok (.iload_n 3, 1) := by decide +kernel
theorem dX0_findState_15 : decode cX0_findState 15 = .ok (.laload, 1) := by decide +kernel
theorem dX0_findState_16 : decode cX0_findState 16 = .ok (.lload_n 1, 1) := by decide +kernel
theorem dX0_findState_17 : decode cX0_findState 17 = .ok (.lcmp, 1) := by decide +kernel
theorem dX0_findState_18 : decode cX0_findState 18 = .ok (.ifCond .ne 5, 3) := by decide +kernel
theorem dX0_findState_21 : decode cX0_findState 21 = .ok (.iload_n 3, 1) := by decide +kernel
theorem dX0_findState_22 : decode cX0_findState 22 = .ok (.ireturn, 1) := by decide +kernel
theorem dX0_findState_23 : decode cX0_findState 23 = .ok (.iinc 3 1, 3) := by decide +kernel
theorem dX0_findState_26 : decode cX0_findState 26 = .ok (.goto (-24), 3) := by decide +kernel
theorem dX0_findState_29 : decode cX0_findState 29 = .ok (.iconst (-1), 1) := by decide +kernel
theorem dX0_findState_30 : decode cX0_findState 30 = .ok (.ireturn, 1) := by decide +kernel
theorem dX0_makeState_0 : decode cX0_makeState 0 = .ok (.aload_n 0, 1) := by decide +kernel
theorem dX0_makeState_1 : decode cX0_makeState 1 = .ok (.getfield 109, 3) := by decide +kernel
theorem dX0_makeState_4 : decode cX0_makeState 4 = .ok (.istore_n 3, 1) := by decide +kernel
theorem dX0_makeState_5 : decode cX0_makeState 5 = .ok (.aload_n 0, 1) := by decide +kernel
theorem dX0_makeState_6 : decode cX0_makeState 6 = .ok (.dup, 1) := by decide +kernel
theorem dX0_makeState_7 : decode cX0_makeState 7 = .ok (.getfield 109, 3) := by decide +kernel
theorem dX0_makeState_10 : decode cX0_makeState 10 = .ok (.iconst 1, 1) := by decide +kernel
theorem dX0_makeState_11 : decode cX0_makeState 11 = .ok (.iadd, 1) := by decide +kernel
theorem dX0_makeState_12 : decode cX0_makeState 12 = .ok (.putfield 109, 3) := by decide +kernel
theorem dX0_makeState_15 : decode cX0_makeState 15 = .ok (.aload_n 0, 1) := by decide +kernel
theorem dX0_makeState_16 : decode cX0_makeState 16 = .ok (.getfield 35, 3) := by decide +kernel
theorem dX0_makeState_19 : decode cX0_makeState 19 = .ok (.iload_n 3, 1) := by decide +kernel
theorem dX0_makeState_20 : decode cX0_makeState 20 = .ok (.lload_n 1, 1) := by decide +kernel
theorem dX0_makeState_21 : decode cX0_makeState 21 = .ok (.lastore, 1) := by decide +kernel
theorem dX0_makeState_22 : decode cX0_makeState 22 = .ok (.aload_n 0, 1) := by decide +kernel
theorem dX0_makeState_23 : decode cX0_makeState 23 = .ok (.getfield 42, 3) := by decide +kernel
theorem dX0_makeState_26 : decode cX0_makeState 26 = .ok (.iload_n 3, 1) := by decide +kernel
theorem dX0_makeState_27 : decode cX0_makeState 27 = .ok (.iconst (-1), 1) := by decide +kernel
theorem dX0_makeState_28 : decode cX0_makeState 28 = .ok (.iastore, 1) := by decide +kernel
theorem dX0_makeState_29 : decode cX0_makeState 29 = .ok (.aload_n 0, 1) := by decide +kernel
theorem dX0_makeState_30 : decode cX0_makeState 30 = .ok (.getfield 64, 3) := by decide +kernel
theorem dX0_makeState_33 : decode cX0_makeState 33 = .ok (.iconst 1, 1) := by decide +kernel
theorem dX0_makeState_34 : decode cX0_makeState 34 = .ok (.isub, 1) := by decide +kernel
theorem dX0_makeState_35 : decode cX0_makeState 35 = .ok (.istore 4, 2) := by decide +kernel
theorem dX0_makeState_37 : decode cX0_makeState 37 = .ok (.iload 4, 2) := by decide +kernel
theorem dX0_makeState_39 : decode cX0_makeState 39 = .ok (.ifCond .lt 40, 3) := by decide +kernel
theorem dX0_makeState_42 : decode cX0_makeState 42 = .ok (.aload_n 0, 1) := by decide +kernel
theorem dX0_makeState_43 : decode cX0_makeState 43 = .ok (.getfield 42, 3) := by decide +kernel
theorem dX0_makeState_46 : decode cX0_makeState 46 = .ok (.iload_n 3, 1) := by decide +kernel
theorem dX0_makeState_47 : decode cX0_makeState 47 = .ok (.lload_n 1, 1) := by decide +kernel
theorem dX0_makeState_48 : decode cX0_makeState 48 = .ok (.aload_n 0, 1) := by decide +kernel
theorem dX0_makeState_49 : decode cX0_makeState 49 = .ok (.getfield 29, 3) := by decide +kernel
theorem dX0_makeState_52 : decode cX0_makeState 52 = .ok (.iload 4, 2) := by decide +kernel
theorem dX0_makeState_54 : decode cX0_makeState 54 = .ok (.laload, 1) := by decide +kernel
theorem dX0_makeState_55 : decode cX0_makeState 55 = .ok (.land, 1) := by decide +kernel
theorem dX0_makeState_56 : decode cX0_makeState 56 = .ok (.lconst 0, 1) := by decide +kernel
theorem dX0_makeState_57 : decode cX0_makeState 57 = .ok (.lcmp, 1) := by decide +kernel
theorem dX0_makeState_58 : decode cX0_makeState 58 = .ok (.ifCond .eq 8, 3) := by decide +kernel
theorem dX0_makeState_61 : decode cX0_makeState 61 = .ok (.iload 4, 2) := by decide +kernel
theorem dX0_makeState_63 : decode cX0_makeState 63 = .ok (.goto 9, 3) := by decide +kernel
theorem dX0_makeState_66 : decode cX0_makeState 66 = .ok (.aload_n 0, 1) := by decide +kernel
theorem dX0_makeState_67 : decode cX0_makeState 67 = .ok (.getfield 42, 3) := by decide +kernel
theorem dX0_makeState_70 : decode cX0_makeState 70 = .ok (.iload_n 3, 1) := by decide +kernel
theorem dX0_makeState_71 : decode cX0_makeState 71 = .ok (.iaload, 1) := by decide +kernel
theorem dX0_makeState_72 : decode cX0_makeState 72 = .ok (.iastore, 1) := by decide +kernel
theorem dX0_makeState_73 : decode cX0_makeState 73 = .ok (.iinc 4 (-1), 3) := by decide +kernel
theorem dX0_makeState_76 : decode cX0_makeState 76 = .ok (.goto (-39), 3) := by decide +kernel
theorem dX0_makeState_79 : decode cX0_makeState 79 = .ok (.iconst 0, 1) := by decide +kernel
theorem dX0_makeState_80 : decode cX0_makeState 80 = .ok (.istore 4, 2) := by decide +kernel
theorem dX0_makeState_82 : decode cX0_makeState 82 = .ok (.iload 4, 2) := by decide +kernel
theorem dX0_makeState_84 : decode cX0_makeState 84 = .ok (.iconst 4, 1) := by decide +kernel
theorem dX0_makeState_85 : decode cX0_makeState 85 = .ok (.if_icmp .ge 21, 3) := by decide +kernel
theorem dX0_makeState_88 : decode cX0_makeState 88 = .ok (.aload_n 0, 1) := by decide +kernel
theorem dX0_makeState_89 : decode cX0_makeState 89 = .ok (.getfield 38, 3) := by decide +kernel
theorem dX0_makeState_92 : decode cX0_makeState 92 = .ok (.iconst 4, 1) := by decide +kernel
theorem dX0_makeState_93 : decode cX0_makeState 93 = .ok (.iload_n 3, 1) := by decide +kernel
theorem dX0_makeState_94 : decode cX0_makeState 94 = .ok (.imul, 1) := by decide +kernel
theorem dX0_makeState_95 : decode cX0_makeState 95 = .ok (.iload 4, 2) := by decide +kernel
theorem dX0_makeState_97 : decode cX0_makeState 97 = .ok (.iadd, 1) := by decide +kernel
theorem dX0_makeState_98 : decode cX0_makeState 98 = .ok (.iconst (-1), 1) := by decide +kernel
theorem dX0_makeState_99 : decode cX0_makeState 99 = .ok (.iastore, 1) := by decide +kernel
theorem dX0_makeState_100 : decode cX0_makeState 100 = .ok (.iinc 4 1, 3) := by decide +kernel
theorem dX0_makeState_103 : decode cX0_makeState 103 = .ok (.goto (-21), 3) := by decide +kernel
theorem dX0_makeState_106 : decode cX0_makeState 106 = .ok (.iload_n 3, 1) := by decide +kernel
theorem dX0_makeState_107 : decode cX0_makeState 107 = .ok (.ireturn, 1) := by decide +kernel
theorem dX0_sort_0 : decode cX0_sort 0 = .ok (.aload_n 0, 1) := by decide +kernel
theorem dX0_sort_1 : decode cX0_sort 1 = .ok (.invokevirtual 91, 3) := by decide +kernel
theorem dX0_sort_4 : decode cX0_sort 4 = .ok (.iload_n 1, 1) := by decide +kernel
theorem dX0_sort_5 : decode cX0_sort 5 = .ok (.ifCond .lt 11, 3) := by decide +kernel
theorem dX0_sort_8 : decode cX0_sort 8 = .ok (.iload_n 1, 1) := by decide +kernel
theorem dX0_sort_9 : decode cX0_sort 9 = .ok (.aload_n 0, 1) := by decide +kernel
theorem dX0_sort_10 : decode cX0_sort 10 = .ok (.getfield 94, 3) := by decide +kernel
theorem dX0_sort_13 : decode cX0_sort 13 = .ok (.if_icmp .lt 8, 3) := by decide +kernel
theorem dX0_sort_16 : decode cX0_sort 16 = .ok (.bipush (-2), 2) := by decide +kernel
theorem dX0_sort_18 : decode cX0_sort 18 = .ok (.goto 9, 3) := by decide +kernel
theorem dX0_sort_21 : decode cX0_sort 21 = .ok (.aload_n 0, 1) := by decide +kernel
theorem dX0_sort_22 : decode cX0_sort 22 = .ok (.getfield 48, 3) := by decide +kernel
theorem dX0_sort_25 : decode cX0_sort 25 = .ok (.iload_n 1, 1) := by decide +kernel
theorem dX0_sort_26 : decode cX0_sort 26 = .ok (.iaload, 1) := by decide +kernel
theorem dX0_sort_27 : decode cX0_sort 27 = .ok (.ireturn, 1) := by decide +kernel
theorem dX0_length_0 : decode cX0_length 0 = .ok (.aload_n 0, 1) := by decide +kernel
theorem dX0_length_1 : decode cX0_length 1 = .ok (.invokevirtual 91, 3) := by decide +kernel
theorem dX0_length_4 : decode cX0_length 4 = .ok (.iload_n 1, 1) := by decide +kernel
theorem dX0_length_5 : decode cX0_length 5 = .ok (.ifCond .lt 11, 3) := by decide +kernel
theorem dX0_length_8 : decode cX0_length 8 = .ok (.iload_n 1, 1) := by decide +kernel
theorem dX0_length_9 : decode cX0_length 9 = .ok (.aload_n 0, 1) := by decide +kernel
theorem dX0_length_10 : decode cX0_length 10 = .ok (.getfield 94, 3) := by decide +kernel
theorem dX0_length_13 : decode cX0_length 13 = .ok (.if_icmp .lt 7, 3) := by decide +kernel
theorem dX0_length_16 : decode cX0_length 16 = .ok (.iconst 0, 1) := by decide +kernel
theorem dX0_length_17 : decode cX0_length 17 = .ok (.goto 9, 3) := by decide +kernel
theorem dX0_length_20 : decode cX0_length 20 = .ok (.aload_n 0, 1) := by decide +kernel
theorem dX0_length_21 : decode cX0_length 21 = .ok (.getfield 51, 3) := by decide +kernel
theorem dX0_length_24 : decode cX0_length 24 = .ok (.iload_n 1, 1) := by decide +kernel
theorem dX0_length_25 : decode cX0_length 25 = .ok (.iaload, 1) := by decide +kernel
theorem dX0_length_26 : decode cX0_length 26 = .ok (.ireturn, 1) := by decide +kernel
theorem dX0_matches_0 : decode cX0_matches 0 = .ok (.iload_n 1, 1) := by decide +kernel
theorem dX0_matches_1 : decode cX0_matches 1 = .ok (.ifCond .lt 11, 3) := by decide +kernel
theorem dX0_matches_4 : decode cX0_matches 4 = .ok (.iload_n 1, 1) := by decide +kernel
theorem dX0_matches_5 : decode cX0_matches 5 = .ok (.aload_n 0, 1) := by decide +kernel
theorem dX0_matches_6 : decode cX0_matches 6 = .ok (.getfield 64, 3) := by decide +kernel
theorem dX0_matches_9 : decode cX0_matches 9 = .ok (.if_icmp .lt 5, 3) := by decide +kernel
theorem dX0_matches_12 : decode cX0_matches 12 = .ok (.iconst (-1), 1) := by decide +kernel
theorem dX0_matches_13 : decode cX0_matches 13 = .ok (.ireturn, 1) := by decide +kernel
theorem dX0_matches_14 : decode cX0_matches 14 = .ok (.lconst 0, 1) := by decide +kernel
theorem dX0_matches_15 : decode cX0_matches 15 = .ok (.lstore_n 2, 1) := by decide +kernel
theorem dX0_matches_16 : decode cX0_matches 16 = .ok (.iconst 0, 1) := by decide +kernel
theorem dX0_matches_17 : decode cX0_matches 17 = .ok (.istore 4, 2) := by decide +kernel
theorem dX0_matches_19 : decode cX0_matches 19 = .ok (.iload 4, 2) := by decide +kernel
theorem dX0_matches_21 : decode cX0_matches 21 = .ok (.aload_n 0, 1) := by decide +kernel
theorem dX0_matches_22 : decode cX0_matches 22 = .ok (.getfield 88, 3) := by decide +kernel
theorem dX0_matches_25 : decode cX0_matches 25 = .ok (.if_icmp .ge 40, 3) := by decide +kernel
theorem dX0_matches_28 : decode cX0_matches 28 = .ok (.aload_n 0, 1) := by decide +kernel
theorem dX0_matches_29 : decode cX0_matches 29 = .ok (.iload 4, 2) := by decide +kernel
theorem dX0_matches_31 : decode cX0_matches 31 = .ok (.ifCond .ne 12, 3) := by decide +kernel
theorem dX0_matches_34 : decode cX0_matches 34 = .ok (.aload_n 0, 1) := by decide +kernel
theorem dX0_matches_35 : decode cX0_matches 35 = .ok (.getfield 26, 3) := by decide +kernel
theorem dX0_matches_38 : decode cX0_matches 38 = .ok (.iload_n 1, 1) := by decide +kernel
theorem dX0_matches_39 : decode cX0_matches 39 = .ok (.laload, 1) := by decide +kernel
theorem dX0_matches_40 : decode cX0_matches 40 = .ok (.goto 8, 3) := by decide +kernel
theorem dX0_matches_43 : decode cX0_matches 43 = .ok (.aload_n 0, 1) := by decide +kernel
theorem dX0_matches_44 : decode cX0_matches 44 = .ok (.lload_n 2, 1) := by decide +kernel
theorem dX0_matches_45 : decode cX0_matches 45 = .ok (.invokevirtual 97, 3) := by decide +kernel
theorem dX0_matches_48 : decode cX0_matches 48 = .ok (.aload_n 0, 1) := by decide +kernel
theorem dX0_matches_49 : decode cX0_matches 49 = .ok (.getfield 45, 3) := by decide +kernel
theorem dX0_matches_52 : decode cX0_matches 52 = .ok (.iload 4, 2) := by decide +kernel
theorem dX0_matches_54 : decode cX0_matches 54 = .ok (.iaload, 1) := by decide +kernel
theorem dX0_matches_55 : decode cX0_matches 55 = .ok (.invokevirtual 101, 3) := by decide +kernel
theorem dX0_matches_58 : decode cX0_matches 58 = .ok (.lstore_n 2, 1) := by decide +kernel
theorem dX0_matches_59 : decode cX0_matches 59 = .ok (.iinc 4 1, 3) := by decide +kernel
theorem dX0_matches_62 : decode cX0_matches 62 = .ok (.goto (-43), 3) := by decide +kernel
theorem dX0_matches_65 : decode cX0_matches 65 = .ok (.aload_n 0, 1) := by decide +kernel
theorem dX0_matches_66 : decode cX0_matches 66 = .ok (.getfield 88, 3) := by decide +kernel
theorem dX0_matches_69 : decode cX0_matches 69 = .ok (.ifCond .ne 12, 3) := by decide +kernel
theorem dX0_matches_72 : decode cX0_matches 72 = .ok (.aload_n 0, 1) := by decide +kernel
theorem dX0_matches_73 : decode cX0_matches 73 = .ok (.getfield 32, 3) := by decide +kernel
theorem dX0_matches_76 : decode cX0_matches 76 = .ok (.iload_n 1, 1) := by decide +kernel
theorem dX0_matches_77 : decode cX0_matches 77 = .ok (.baload, 1) := by decide +kernel
theorem dX0_matches_78 : decode cX0_matches 78 = .ok (.goto 21, 3) := by decide +kernel
theorem dX0_matches_81 : decode cX0_matches 81 = .ok (.lload_n 2, 1) := by decide +kernel
theorem dX0_matches_82 : decode cX0_matches 82 = .ok (.aload_n 0, 1) := by decide +kernel
theorem dX0_matches_83 : decode cX0_matches 83 = .ok (.getfield 29, 3) := by decide +kernel
theorem dX0_matches_86 : decode cX0_matches 86 = .ok (.iload_n 1, 1) := by decide +kernel
theorem dX0_matches_87 : decode cX0_matches 87 = .ok (.laload, 1) := by decide +kernel
theorem dX0_matches_88 : decode cX0_matches 88 = .ok (.land, 1) := by decide +kernel
theorem dX0_matches_89 : decode cX0_matches 89 = .ok (.lconst 0, 1) := by decide +kernel
theorem dX0_matches_90 : decode cX0_matches 90 = .ok (.lcmp, 1) := by decide +kernel
theorem dX0_matches_91 : decode cX0_matches 91 = .ok (.ifCond .eq 7, 3) := by decide +kernel
theorem dX0_matches_94 : decode cX0_matches 94 = .ok (.iconst 1, 1) := by decide +kernel
theorem dX0_matches_95 : decode cX0_matches 95 = .ok (.goto 4, 3) := by decide +kernel
theorem dX0_matches_98 : decode cX0_matches 98 = .ok (.iconst 0, 1) := by decide +kernel
theorem dX0_matches_99 : decode cX0_matches 99 = .ok (.istore 4, 2) := by decide +kernel
theorem dX0_matches_101 : decode cX0_matches 101 = .ok (.iload 4, 2) := by decide +kernel
theorem dX0_matches_103 : decode cX0_matches 103 = .ok (.ifCond .eq 7, 3) := by decide +kernel
theorem dX0_matches_106 : decode cX0_matches 106 = .ok (.iconst 1, 1) := by decide +kernel
theorem dX0_matches_107 : decode cX0_matches 107 = .ok (.goto 4, 3) := by decide +kernel
theorem dX0_matches_110 : decode cX0_matches 110 = .ok (.iconst 0, 1) := by decide +kernel
theorem dX0_matches_111 : decode cX0_matches 111 = .ok (.ireturn, 1) := by decide +kernel
theorem dX0_count_0 : decode cX0_count 0 = .ok (.iload_n 1, 1) := by decide +kernel
theorem dX0_count_1 : decode cX0_count 1 = .ok (.ifCond .lt 20, 3) := by decide +kernel
theorem dX0_count_4 : decode cX0_count 4 = .ok (.iload_n 1, 1) := by decide +kernel
theorem dX0_count_5 : decode cX0_count 5 = .ok (.aload_n 0, 1) := by decide +kernel
theorem dX0_count_6 : decode cX0_count 6 = .ok (.getfield 64, 3) := by decide +kernel
theorem dX0_count_9 : decode cX0_count 9 = .ok (.if_icmp .ge 12, 3) := by decide +kernel
theorem dX0_count_12 : decode cX0_count 12 = .ok (.iload_n 2, 1) := by decide +kernel
theorem dX0_count_13 : decode cX0_count 13 = .ok (.ifCond .lt 8, 3) := by decide +kernel
theorem dX0_count_16 : decode cX0_count 16 = .ok (.iload_n 2, 1) := by decide +kernel
theorem dX0_count_17 : decode cX0_count 17 = .ok (.iconst 4, 1) := by decide +kernel
theorem dX0_count_18 : decode cX0_count 18 = .ok (.if_icmp .le 5, 3) := by decide +kernel
theorem dX0_count_21 : decode cX0_count 21 = .ok (.iconst (-1), 1) := by decide +kernel
theorem dX0_count_22 : decode cX0_count 22 = .ok (.ireturn, 1) := by decide +kernel
theorem dX0_count_23 : decode cX0_count 23 = .ok (.iload_n 2, 1) := by decide +kernel
theorem dX0_count_24 : decode cX0_count 24 = .ok (.ifCond .ne 18, 3) := by decide +kernel
theorem dX0_count_27 : decode cX0_count 27 = .ok (.aload_n 0, 1) := by decide +kernel
theorem dX0_count_28 : decode cX0_count 28 = .ok (.getfield 32, 3) := by decide +kernel
theorem dX0_count_31 : decode cX0_count 31 = .ok (.iload_n 1, 1) := by decide +kernel
theorem dX0_count_32 : decode cX0_count 32 = .ok (.baload, 1) := by decide +kernel
theorem dX0_count_33 : decode cX0_count 33 = .ok (.ifCond .eq 7, 3) := by decide +kernel
theorem dX0_count_36 : decode cX0_count 36 = .ok (.iconst 1, 1) := by decide +kernel
theorem dX0_count_37 : decode cX0_count 37 = .ok (.goto 4, 3) := by decide +kernel
theorem dX0_count_40 : decode cX0_count 40 = .ok (.iconst 0, 1) := by decide +kernel
theorem dX0_count_41 : decode cX0_count 41 = .ok (.ireturn, 1) := by decide +kernel
theorem dX0_count_42 : decode cX0_count 42 = .ok (.iconst 0, 1) := by decide +kernel
theorem dX0_count_43 : decode cX0_count 43 = .ok (.istore_n 3, 1) := by decide +kernel
theorem dX0_count_44 : decode cX0_count 44 = .ok (.iconst 0, 1) := by decide +kernel
theorem dX0_count_45 : decode cX0_count 45 = .ok (.istore 4, 2) := by decide +kernel
theorem dX0_count_47 : decode cX0_count 47 = .ok (.iload 4, 2) := by decide +kernel
theorem dX0_count_49 : decode cX0_count 49 = .ok (.iconst 1, 1) := by decide +kernel
theorem dX0_count_50 : decode cX0_count 50 = .ok (.iconst 2, 1) := by decide +kernel
theorem dX0_count_51 : decode cX0_count 51 = .ok (.iload_n 2, 1) := by decide +kernel
theorem dX0_count_52 : decode cX0_count 52 = .ok (.imul, 1) := by decide +kernel
theorem dX0_count_53 : decode cX0_count 53 = .ok (.ishl, 1) := by decide +kernel
theorem dX0_count_54 : decode cX0_count 54 = .ok (.if_icmp .ge 85, 3) := by decide +kernel
theorem dX0_count_57 : decode cX0_count 57 = .ok (.aload_n 0, 1) := by decide +kernel
theorem dX0_count_58 : decode cX0_count 58 = .ok (.getfield 26, 3) := by decide +kernel
theorem dX0_count_61 : decode cX0_count 61 = .ok (.iload_n 1, 1) := by decide +kernel
theorem dX0_count_62 : decode cX0_count 62 = .ok (.laload, 1) := by decide +kernel
theorem dX0_count_63 : decode cX0_count 63 = .ok (.lstore 5, 2) := by decide +kernel
theorem dX0_count_65 : decode cX0_count 65 = .ok (.iconst 0, 1) := by decide +kernel
theorem dX0_count_66 : decode cX0_count 66 = .ok (.istore 7, 2) := by decide +kernel
theorem dX0_count_68 : decode cX0_count 68 = .ok (.iload 7, 2) := by decide +kernel
theorem dX0_count_70 : decode cX0_count 70 = .ok (.iload_n 2, 1) := by decide +kernel
theorem dX0_count_71 : decode cX0_count 71 = .ok (.if_icmp .ge 40, 3) := by decide +kernel
theorem dX0_count_74 : decode cX0_count 74 = .ok (.aload_n 0, 1) := by decide +kernel
theorem dX0_count_75 : decode cX0_count 75 = .ok (.iload 7, 2) := by decide +kernel
theorem dX0_count_77 : decode cX0_count 77 = .ok (.ifCond .ne 8, 3) := by decide +kernel
theorem dX0_count_80 : decode cX0_count 80 = .ok (.lload 5, 2) := by decide +kernel
theorem dX0_count_82 : decode cX0_count 82 = .ok (.goto 9, 3) := by decide +kernel
theorem dX0_count_85 : decode cX0_count 85 = .ok (.aload_n 0, 1) := by decide +kernel
theorem dX0_count_86 : decode cX0_count 86 = .ok (.lload 5, 2) := by decide +kernel
theorem dX0_count_88 : decode cX0_count 88 = .ok (.invokevirtual 97, 3) := by decide +kernel
theorem dX0_count_91 : decode cX0_count 91 = .ok (.iload 4, 2) := by decide +kernel
theorem dX0_count_93 : decode cX0_count 93 = .ok (.iconst 2, 1) := by decide +kernel
theorem dX0_count_94 : decode cX0_count 94 = .ok (.iload 7, 2) := by decide +kernel
theorem dX0_count_96 : decode cX0_count 96 = .ok (.imul, 1) := by decide +kernel
theorem dX0_count_97 : decode cX0_count 97 = .ok (.ishr, 1) := by decide +kernel
theorem dX0_count_98 : decode cX0_count 98 = .ok (.iconst 3, 1) := by decide +kernel
theorem dX0_count_99 : decode cX0_count 99 = .ok (.iand, 1) := by decide +kernel
theorem dX0_count_100 : decode cX0_count 100 = .ok (.invokevirtual 101, 3) := by decide +kernel
theorem dX0_count_103 : decode cX0_count 103 = .ok (.lstore 5, 2) := by decide +kernel
theorem dX0_count_105 : decode cX0_count 105 = .ok (.iinc 7 1, 3) := by decide +kernel
theorem dX0_count_108 : decode cX0_count 108 = .ok (.goto (-40), 3) := by decide +kernel
theorem dX0_count_111 : decode cX0_count 111 = .ok (.iload_n 3, 1) := by decide +kernel
theorem dX0_count_112 : decode cX0_count 112 = .ok (.lload 5, 2) := by decide +kernel
theorem dX0_count_114 : decode cX0_count 114 = .ok (.aload_n 0, 1) := by decide +kernel
theorem dX0_count_115 : decode cX0_count 115 = .ok (.getfield 29, 3) := by decide +kernel
theorem dX0_count_118 : decode cX0_count 118 = .ok (.iload_n 1, 1) := by decide +kernel
theorem dX0_count_119 : decode cX0_count 119 = .ok (.laload, 1) := by decide +kernel
theorem dX0_count_120 : decode cX0_count 120 = .ok (.land, 1) := by decide +kernel
theorem dX0_count_121 : decode cX0_count 121 = .ok (.lconst 0, 1) := by decide +kernel
theorem dX0_count_122 : decode cX0_count 122 = .ok (.lcmp, 1) := by decide +kernel
theorem dX0_count_123 : decode cX0_count 123 = .ok (.ifCond .eq 7, 3) := by decide +kernel
theorem dX0_count_126 : decode cX0_count 126 = .ok (.iconst 1, 1) := by decide +kernel
theorem dX0_count_127 : decode cX0_count 127 = .ok (.goto 4, 3) := by decide +kernel
theorem dX0_count_130 : decode cX0_count 130 = .ok (.iconst 0, 1) := by decide +kernel
theorem dX0_count_131 : decode cX0_count 131 = .ok (.iadd, 1) := by decide +kernel
theorem dX0_count_132 : decode cX0_count 132 = .ok (.istore_n 3, 1) := by decide +kernel
theorem dX0_count_133 : decode cX0_count 133 = .ok (.iinc 4 1, 3) := by decide +kernel
theorem dX0_count_136 : decode cX0_count 136 = .ok (.goto (-89), 3) := by decide +kernel
theorem dX0_count_139 : decode cX0_count 139 = .ok (.iload_n 3, 1) := by decide +kernel
theorem dX0_count_140 : decode cX0_count 140 = .ok (.ireturn, 1) := by decide +kernel
theorem dX0_sortOf_0 : decode cX0_sortOf 0 = .ok (.iload_n 1, 1) := by decide +kernel
theorem dX0_sortOf_1 : decode cX0_sortOf 1 = .ok (.ifCond .lt 16, 3) := by decide +kernel
theorem dX0_sortOf_4 : decode cX0_sortOf 4 = .ok (.iload_n 1, 1) := by decide +kernel
theorem dX0_sortOf_5 : decode cX0_sortOf 5 = .ok (.iload_n 2, 1) := by decide +kernel
theorem dX0_sortOf_6 : decode cX0_sortOf 6 = .ok (.if_icmp .gt 11, 3) := by decide +kernel
theorem dX0_sortOf_9 : decode cX0_sortOf 9 = .ok (.iload_n 2, 1) := by decide +kernel
theorem dX0_sortOf_10 : decode cX0_sortOf 10 = .ok (.aload_n 0, 1) := by decide +kernel
theorem dX0_sortOf_11 : decode cX0_sortOf 11 = .ok (.getfield 88, 3) := by decide +kernel
theorem dX0_sortOf_14 : decode cX0_sortOf 14 = .ok (.if_icmp .le 6, 3) := by decide +kernel
theorem dX0_sortOf_17 : decode cX0_sortOf 17 = .ok (.bipush (-2), 2) := by decide +kernel
theorem dX0_sortOf_19 : decode cX0_sortOf 19 = .ok (.ireturn, 1) := by decide +kernel
theorem dX0_sortOf_20 : decode cX0_sortOf 20 = .ok (.iconst 0, 1) := by decide +kernel
theorem dX0_sortOf_21 : decode cX0_sortOf 21 = .ok (.istore_n 3, 1) := by decide +kernel
theorem dX0_sortOf_22 : decode cX0_sortOf 22 = .ok (.iload_n 1, 1) := by decide +kernel
theorem dX0_sortOf_23 : decode cX0_sortOf 23 = .ok (.istore 4, 2) := by decide +kernel
theorem dX0_sortOf_25 : decode cX0_sortOf 25 = .ok (.iload 4, 2) := by decide +kernel
theorem dX0_sortOf_27 : decode cX0_sortOf 27 = .ok (.iload_n 2, 1) := by decide +kernel
theorem dX0_sortOf_28 : decode cX0_sortOf 28 = .ok (.if_icmp .ge 22, 3) := by decide +kernel
theorem dX0_sortOf_31 : decode cX0_sortOf 31 = .ok (.aload_n 0, 1) := by decide +kernel
theorem dX0_sortOf_32 : decode cX0_sortOf 32 = .ok (.iload_n 3, 1) := by decide +kernel
theorem dX0_sortOf_33 : decode cX0_sortOf 33 = .ok (.aload_n 0, 1) := by decide +kernel
theorem dX0_sortOf_34 : decode cX0_sortOf 34 = .ok (.getfield 45, 3) := by decide +kernel
theorem dX0_sortOf_37 : decode cX0_sortOf 37 = .ok (.iload 4, 2) := by decide +kernel
theorem dX0_sortOf_39 : decode cX0_sortOf 39 = .ok (.iaload, 1) := by decide +kernel
theorem dX0_sortOf_40 : decode cX0_sortOf 40 = .ok (.invokevirtual 105, 3) := by decide +kernel
theorem dX0_sortOf_43 : decode cX0_sortOf 43 = .ok (.istore_n 3, 1) := by decide +kernel
theorem dX0_sortOf_44 : decode cX0_sortOf 44 = .ok (.iinc 4 1, 3) := by decide +kernel
theorem dX0_sortOf_47 : decode cX0_sortOf 47 = .ok (.goto (-22), 3) := by decide +kernel
theorem dX0_sortOf_50 : decode cX0_sortOf 50 = .ok (.aload_n 0, 1) := by decide +kernel
theorem dX0_sortOf_51 : decode cX0_sortOf 51 = .ok (.getfield 42, 3) := by decide +kernel
theorem dX0_sortOf_54 : decode cX0_sortOf 54 = .ok (.iload_n 3, 1) := by decide +kernel
theorem dX0_sortOf_55 : decode cX0_sortOf 55 = .ok (.iaload, 1) := by decide +kernel
theorem dX0_sortOf_56 : decode cX0_sortOf 56 = .ok (.ireturn, 1) := by decide +kernel
end
section
set_option maxRecDepth 100000
theorem dX1_init_0 : decode cX1_init 0 = .ok (.aload_n 0, 1) := by decide +kernel
theorem dX1_init_1 : decode cX1_init 1 = .ok (.invokespecial 1, 3) := by decide +kernel
theorem dX1_init_4 : decode cX1_init 4 = .ok (.aload_n 0, 1) := by decide +kernel
theorem dX1_init_5 : decode cX1_init 5 = .ok (.bipush 40, 2) := by decide +kernel
theorem dX1_init_7 : decode cX1_init 7 = .ok (.newarray .int, 2) := by decide +kernel
theorem dX1_init_9 : decode cX1_init 9 = .ok (.putfield 7, 3) := by decide +kernel
theorem dX1_init_12 : decode cX1_init 12 = .ok (.aload_n 0, 1) := by decide +kernel
theorem dX1_init_13 : decode cX1_init 13 = .ok (.bipush 40, 2) := by decide +kernel
theorem dX1_init_15 : decode cX1_init 15 = .ok (.newarray .int, 2) := by decide +kernel
theorem dX1_init_17 : decode cX1_init 17 = .ok (.putfield 13, 3) := by decide +kernel
theorem dX1_init_20 : decode cX1_init 20 = .ok (.aload_n 0, 1) := by decide +kernel
theorem dX1_init_21 : decode cX1_init 21 = .ok (.bipush 40, 2) := by decide +kernel
theorem dX1_init_23 : decode cX1_init 23 = .ok (.newarray .int, 2) := by decide +kernel
theorem dX1_init_25 : decode cX1_init 25 = .ok (.putfield 16, 3) := by decide +kernel
theorem dX1_init_28 : decode cX1_init 28 = .ok (.aload_n 0, 1) := by decide +kernel
theorem dX1_init_29 : decode cX1_init 29 = .ok (.bipush 40, 2) := by decide +kernel
theorem dX1_init_31 : decode cX1_init 31 = .ok (.newarray .int, 2) := by decide +kernel
theorem dX1_init_33 : decode cX1_init 33 = .ok (.putfield 19, 3) := by decide +kernel
theorem dX1_init_36 : decode cX1_init 36 = .ok (.aload_n 0, 1) := by decide +kernel
theorem dX1_init_37 : decode cX1_init 37 = .ok (.bipush 40, 2) := by decide +kernel
theorem dX1_init_39 : decode cX1_init 39 = .ok (.newarray .int, 2) := by decide +kernel
theorem dX1_init_41 : decode cX1_init 41 = .ok (.putfield 22, 3) := by decide +kernel
theorem dX1_init_44 : decode cX1_init 44 = .ok (.aload_n 0, 1) := by decide +kernel
theorem dX1_init_45 : decode cX1_init 45 = .ok (.iconst 5, 1) := by decide +kernel
theorem dX1_init_46 : decode cX1_init 46 = .ok (.newarray .int, 2) := by decide +kernel
theorem dX1_init_48 : decode cX1_init 48 = .ok (.putfield 25, 3) := by decide +kernel
theorem dX1_init_51 : decode cX1_init 51 = .ok (.aload_n 0, 1) := by decide +kernel
theorem dX1_init_52 : decode cX1_init 52 = .ok (.bipush 30, 2) := by decide +kernel
theorem dX1_init_54 : decode cX1_init 54 = .ok (.newarray .int, 2) := by decide +kernel
theorem dX1_init_56 : decode cX1_init 56 = .ok (.putfield 28, 3) := by decide +kernel
theorem dX1_init_59 : decode cX1_init 59 = .ok (.aload_n 0, 1) := by decide +kernel
theorem dX1_init_60 : decode cX1_init 60 = .ok (.bipush 30, 2) := by decide +kernel
theorem dX1_init_62 : decode cX1_init 62 = .ok (.newarray .int, 2) := by decide +kernel
theorem dX1_init_64 : decode cX1_init 64 = .ok (.putfield 31, 3) := by decide +kernel
theorem dX1_init_67 : decode cX1_init 67 = .ok (.aload_n 0, 1) := by decide +kernel
theorem dX1_init_68 : decode cX1_init 68 = .ok (.ldc 34, 2) := by decide +kernel
theorem dX1_init_70 : decode cX1_init 70 = .ok (.newarray .boolean, 2) := by decide +kernel
theorem dX1_init_72 : decode cX1_init 72 = .ok (.putfield 35, 3) := by decide +kernel
theorem dX1_init_75 : decode cX1_init 75 = .ok (.return_, 1) := by decide +kernel
theorem dX1_token_0 : decode cX1_token 0 = .ok (.iload_n 1, 1) := by decide +kernel
theorem dX1_token_1 : decode cX1_token 1 = .ok (.ifCond .lt 43, 3) := by decide +kernel
theorem dX1_token_4 : decode cX1_token 4 = .ok (.iload_n 1, 1) := by decide +kernel
theorem dX1_token_5 : decode cX1_token 5 = .ok (.bipush 7, 2) := by decide +kernel
theorem dX1_token_7 : decode cX1_token 7 = .ok (.if_icmp .gt 37, 3) := by decide +kernel
theorem dX1_token_10 : decode cX1_token 10 = .ok (.aload_n 0, 1) := by decide +kernel
theorem dX1_token_11 : decode cX1_token 11 = .ok (.getfield 39, 3) := by decide +kernel
theorem dX1_token_14 : decode cX1_token 14 = .ok (.iload_n 1, 1) := by decide +kernel
theorem dX1_token_15 : decode cX1_token 15 = .ok (.invokestatic 43, 3) := by decide +kernel
theorem dX1_token_18 : decode cX1_token 18 = .ok (.if_icmp .lt 26, 3) := by decide +kernel
theorem dX1_token_21 : decode cX1_token 21 = .ok (.aload_n 0, 1) := by decide +kernel
theorem dX1_token_22 : decode cX1_token 22 = .ok (.getfield 47, 3) := by decide +kernel
theorem dX1_token_25 : decode cX1_token 25 = .ok (.bipush 40, 2) := by decide +kernel
theorem dX1_token_27 : decode cX1_token 27 = .ok (.if_icmp .eq 17, 3) := by decide +kernel
theorem dX1_token_30 : decode cX1_token 30 = .ok (.iload_n 1, 1) := by decide +kernel
theorem dX1_token_31 : decode cX1_token 31 = .ok (.bipush 7, 2) := by decide +kernel
theorem dX1_token_33 : decode cX1_token 33 = .ok (.if_icmp .ne 13, 3) := by decide +kernel
theorem dX1_token_36 : decode cX1_token 36 = .ok (.aload_n 0, 1) := by decide +kernel
theorem dX1_token_37 : decode cX1_token 37 = .ok (.getfield 50, 3) := by decide +kernel
theorem dX1_token_40 : decode cX1_token 40 = .ok (.iconst 5, 1) := by decide +kernel
theorem dX1_token_41 : decode cX1_token 41 = .ok (.if_icmp .ne 5, 3) := by decide +kernel
theorem dX1_token_44 : decode cX1_token 44 = .ok (.iconst (-1), 1) := by decide +kernel
theorem dX1_token_45 : decode cX1_token 45 = .ok (.ireturn, 1) := by decide +kernel
theorem dX1_token_46 : decode cX1_token 46 = .ok (.aload_n 0, 1) := by decide +kernel
theorem dX1_token_47 : decode cX1_token 47 = .ok (.getfield 7, 3) := by decide +kernel
theorem dX1_token_50 : decode cX1_token 50 = .ok (.aload_n 0, 1) := by decide +kernel
theorem dX1_token_51 : decode cX1_token 51 = .ok (.getfield 47, 3) := by decide +kernel
theorem dX1_token_54 : decode cX1_token 54 = .ok (.iload_n 1, 1) := by decide +kernel
theorem dX1_token_55 : decode cX1_token 55 = .ok (.iastore, 1) := by decide +kernel
theorem dX1_token_56 : decode cX1_token 56 = .ok (.aload_n 0, 1) := by decide +kernel
theorem dX1_token_57 : decode cX1_token 57 = .ok (.getfield 13, 3) := by decide +kernel
theorem dX1_token_60 : decode cX1_token 60 = .ok (.aload_n 0, 1) := by decide +kernel
theorem dX1_token_61 : decode cX1_token 61 = .ok (.getfield 47, 3) := by decide +kernel
theorem dX1_token_64 : decode cX1_token 64 = .ok (.iload_n 2, 1) := by decide +kernel
theorem dX1_token_65 : decode cX1_token 65 = .ok (.iconst 3, 1) := by decide +kernel
theorem dX1_token_66 : decode cX1_token 66 = .ok (.iand, 1) := by decide +kernel
theorem dX1_token_67 : decode cX1_token 67 = .ok (.iastore, 1) := by decide +kernel
theorem dX1_token_68 : decode cX1_token 68 = .ok (.iload_n 1, 1) := by decide +kernel
theorem dX1_token_69 : decode cX1_token 69 = .ok (.invokestatic 43, 3) := by decide +kernel
theorem dX1_token_72 : decode cX1_token 72 = .ok (.ifCond .le 23, 3) := by decide +kernel
theorem dX1_token_75 : decode cX1_token 75 = .ok (.aload_n 0, 1) := by decide +kernel
theorem dX1_token_76 : decode cX1_token 76 = .ok (.getfield 19, 3) := by decide +kernel
theorem dX1_token_79 : decode cX1_token 79 = .ok (.aload_n 0, 1) := by decide +kernel
theorem dX1_token_80 : decode cX1_token 80 = .ok (.getfield 47, 3) := by decide +kernel
theorem dX1_token_83 : decode cX1_token 83 = .ok (.aload_n 0, 1) := by decide +kernel
theorem dX1_token_84 : decode cX1_token 84 = .ok (.getfield 22, 3) := by decide +kernel
theorem dX1_token_87 : decode cX1_token 87 = .ok (.aload_n 0, 1) := by decide +kernel
theorem dX1_token_88 : decode cX1_token 88 = .ok (.getfield 39, 3) := by decide +kernel
theorem dX1_token_91 : decode cX1_token 91 = .ok (.iconst 1, 1) := by decide +kernel
theorem dX1_token_92 : decode cX1_token 92 = .ok (.isub, 1) := by decide +kernel
theorem dX1_token_93 : decode cX1_token 93 = .ok (.iaload, 1) := by decide +kernel
theorem dX1_token_94 : decode cX1_token 94 = .ok (.iastore, 1) := by decide +kernel
theorem dX1_token_95 : decode cX1_token 95 = .ok (.iload_n 1, 1) := by decide +kernel
theorem dX1_token_96 : decode cX1_token 96 = .ok (.invokestatic 43, 3) := by decide +kernel
theorem dX1_token_99 : decode cX1_token 99 = .ok (.iconst 2, 1) := by decide +kernel
theorem dX1_token_100 : decode cX1_token 100 = .ok (.if_icmp .ne 23, 3) := by decide +kernel
theorem dX1_token_103 : decode cX1_token 103 = .ok (.aload_n 0, 1) := by decide +kernel
theorem dX1_token_104 : decode cX1_token 104 = .ok (.getfield 16, 3) := by decide +kernel
theorem dX1_token_107 : decode cX1_token 107 = .ok (.aload_n 0, 1) := by decide +kernel
theorem dX1_token_108 : decode cX1_token 108 = .ok (.getfield 47, 3) := by decide +kernel
theorem dX1_token_111 : decode cX1_token 111 = .ok (.aload_n 0, 1) := by decide +kernel
theorem dX1_token_112 : decode cX1_token 112 = .ok (.getfield 22, 3) := by decide +kernel
theorem dX1_token_115 : decode cX1_token 115 = .ok (.aload_n 0, 1) := by decide +kernel
theorem dX1_token_116 : decode cX1_token 116 = .ok (.getfield 39, 3) := by decide +kernel
theorem dX1_token_119 : decode cX1_token 119 = .ok (.iconst 2, 1) := by decide +kernel
theorem dX1_token_120 : decode cX1_token 120 = .ok (.isub, 1) := by decide +kernel
theorem dX1_token_121 : decode cX1_token 121 = .ok (.iaload, 1) := by decide +kernel
theorem dX1_token_122 : decode cX1_token 122 = .ok (.iastore, 1) := by decide +kernel
theorem dX1_token_123 : decode cX1_token 123 = .ok (.aload_n 0, 1) := by decide +kernel
theorem dX1_token_124 : decode cX1_token 124 = .ok (.dup, 1) := by decide +kernel
theorem dX1_token_125 : decode cX1_token 125 = .ok (.getfield 39, 3) := by decide +kernel
theorem dX1_token_128 : decode cX1_token 128 = .ok (.iload_n 1, 1) := by decide +kernel
theorem dX1_token_129 : decode cX1_token 129 = .ok (.invokestatic 43, 3) := by decide +kernel
theorem dX1_token_132 : decode cX1_token 132 = .ok (.isub, 1) := by decide +kernel
theorem dX1_token_133 : decode cX1_token 133 = .ok (.putfield 39, 3) := by decide +kernel
theorem dX1_token_136 : decode cX1_token 136 = .ok (.iload_n 1, 1) := by decide +kernel
theorem dX1_token_137 : decode cX1_token 137 = .ok (.bipush 7, 2) := by decide +kernel
theorem dX1_token_139 : decode cX1_token 139 = .ok (.if_icmp .ne 34, 3) := by decide +kernel
theorem dX1_token_142 : decode cX1_token 142 = .ok (.aload_n 0, 1) := by decide +kernel
theorem dX1_token_143 : decode cX1_token 143 = .ok (.getfield 25, 3) := by decide +kernel
theorem dX1_token_146 : decode cX1_token 146 = .ok (.aload_n 0, 1) := by decide +kernel
theorem dX1_token_147 : decode cX1_token 147 = .ok (.getfield 50, 3) := by decide +kernel
theorem dX1_token_150 : decode cX1_token 150 = .ok (.aload_n 0, 1) := by decide +kernel
theorem dX1_token_151 : decode cX1_token 151 = .ok (.getfield 19, 3) := by decide +kernel
theorem dX1_token_154 : decode cX1_token 154 = .ok (.aload_n 0, 1) := by decide +kernel
theorem dX1_token_155 : decode cX1_token 155 = .ok (.getfield 47, 3) := by decide +kernel
theorem dX1_token_158 : decode cX1_token 158 = .ok (.iaload, 1) := by decide +kernel
theorem dX1_token_159 : decode cX1_token 159 = .ok (.iastore, 1) := by decide +kernel
theorem dX1_token_160 : decode cX1_token 160 = .ok (.aload_n 0, 1) := by decide +kernel
theorem dX1_token_161 : decode cX1_token 161 = .ok (.dup, 1) := by decide +kernel
theorem dX1_token_162 : decode cX1_token 162 = .ok (.getfield 50, 3) := by decide +kernel
theorem dX1_token_165 : decode cX1_token 165 = .ok (.iconst 1, 1) := by decide +kernel
theorem dX1_token_166 : decode cX1_token 166 = .ok (.iadd, 1) := by decide +kernel
theorem dX1_token_167 : decode cX1_token 167 = .ok (.putfield 50, 3) := by decide +kernel
theorem dX1_token_170 : decode cX1_token 170 = .ok (.goto 26, 3) := by decide +kernel
theorem dX1_token_173 : decode cX1_token 173 = .ok (.aload_n 0, 1) := by decide +kernel
theorem dX1_token_174 : decode cX1_token 174 = .ok (.getfield 22, 3) := by decide +kernel
theorem dX1_token_177 : decode cX1_token 177 = .ok (.aload_n 0, 1) := by decide +kernel
theorem dX1_token_178 : decode cX1_token 178 = .ok (.getfield 39, 3) := by decide +kernel
theorem dX1_token_181 : decode cX1_token 181 = .ok (.aload_n 0, 1) := by decide +kernel
theorem dX1_token_182 : decode cX1_token 182 = .ok (.getfield 47, 3) := by decide +kernel
theorem dX1_token_185 : decode cX1_token 185 = .ok (.iastore, 1) := by decide +kernel
theorem dX1_token_186 : decode cX1_token 186 = .ok (.aload_n 0, 1) := by decide +kernel
theorem dX1_token_187 : decode cX1_token 187 = .ok (.dup, 1) := by decide +kernel
theorem dX1_token_188 : decode cX1_token 188 = .ok (.getfield 39, 3) := by decide +kernel
theorem dX1_token_191 : decode cX1_token 191 = .ok (.iconst 1, 1) := by decide +kernel
theorem dX1_token_192 : decode cX1_token 192 = .ok (.iadd, 1) := by decide +kernel
theorem dX1_token_193 : decode cX1_token 193 = .ok (.putfield 39, 3) := by decide +kernel
theorem dX1_token_196 : decode cX1_token 196 = .ok (.aload_n 0, 1) := by decide +kernel
theorem dX1_token_197 : decode cX1_token 197 = .ok (.dup, 1) := by decide +kernel
theorem dX1_token_198 : decode cX1_token 198 = .ok (.getfield 47, 3) := by decide +kernel
theorem dX1_token_201 : decode cX1_token 201 = .ok (.iconst 1, 1) := by decide +kernel
theorem dX1_token_202 : decode cX1_token 202 = .ok (.iadd, 1) := by decide +kernel
theorem dX1_token_203 : decode cX1_token 203 = .ok (.putfield 47, 3) := by decide +kernel
theorem dX1_token_206 : decode cX1_token 206 = .ok (.aload_n 0, 1) := by decide +kernel
theorem dX1_token_207 : decode cX1_token 207 = .ok (.getfield 39, 3) := by decide +kernel
theorem dX1_token_210 : decode cX1_token 210 = .ok (.ireturn, 1) := by decide +kernel
theorem dX1_takes_0 : decode cX1_takes 0 = .ok (.iload_n 0, 1) := by decide +kernel
theorem dX1_takes_1 : decode cX1_takes 1 = .ok (.iconst 2, 1) := by decide +kernel
theorem dX1_takes_2 : decode cX1_takes 2 = .ok (.if_icmp .gt 7, 3) := by decide +kernel
theorem dX1_takes_5 : decode cX1_takes 5 = .ok (.iconst 0, 1) := by decide +kernel
theorem dX1_takes_6 : decode cX1_takes 6 = .ok (.goto 13, 3) := by decide +kernel
theorem dX1_takes_9 : decode cX1_takes 9 = .ok (.iload_n 0, 1) := by decide +kernel
theorem dX1_takes_10 : decode cX1_takes 10 = .ok (.iconst 4, 1) := by decide +kernel
theorem dX1_takes_11 : decode cX1_takes 11 = .ok (.if_icmp .gt 7, 3) := by decide +kernel
theorem dX1_takes_14 : decode cX1_takes 14 = .ok (.iconst 2, 1) := by decide +kernel
theorem dX1_takes_15 : decode cX1_takes 15 = .ok (.goto 4, 3) := by decide +kernel
theorem dX1_takes_18 : decode cX1_takes 18 = .ok (.iconst 1, 1) := by decide +kernel
theorem dX1_takes_19 : decode cX1_takes 19 = .ok (.ireturn, 1) := by decide +kernel
theorem dX1_clear_0 : decode cX1_clear 0 = .ok (.aload_n 0, 1) := by decide +kernel
theorem dX1_clear_1 : decode cX1_clear 1 = .ok (.iconst 0, 1) := by decide +kernel
theorem dX1_clear_2 : decode cX1_clear 2 = .ok (.putfield 47, 3) := by decide +kernel
theorem dX1_clear_5 : decode cX1_clear 5 = .ok (.aload_n 0, 1) := by decide +kernel
theorem dX1_clear_6 : decode cX1_clear 6 = .ok (.iconst 0, 1) := by decide +kernel
theorem dX1_clear_7 : decode cX1_clear 7 = .ok (.putfield 39, 3) := by decide +kernel
theorem dX1_clear_10 : decode cX1_clear 10 = .ok (.aload_n 0, 1) := by decide +kernel
theorem dX1_clear_11 : decode cX1_clear 11 = .ok (.iconst 0, 1) := by decide +kernel
theorem dX1_clear_12 : decode cX1_clear 12 = .ok (.putfield 50, 3) := by decide +kernel
theorem dX1_clear_15 : decode cX1_clear 15 = .ok (.return_, 1) := by decide +kernel
theorem dX1_type_0 : decode cX1_type 0 = .ok (.aload_n 0, 1) := by decide +kernel
theorem dX1_type_1 : decode cX1_type 1 = .ok (.getfield 53, 3) := by decide +kernel
theorem dX1_type_4 : decode cX1_type 4 = .ok (.bipush 30, 2) := by decide +kernel
theorem dX1_type_6 : decode cX1_type 6 = .ok (.if_icmp .ne 5, 3) := by decide +kernel
theorem dX1_type_9 : decode cX1_type 9 = .ok (.iconst (-1), 1) := by decide +kernel
theorem dX1_type_10 : decode cX1_type 10 = .ok (.ireturn, 1) := by decide +kernel
theorem dX1_type_11 : decode cX1_type 11 = .ok (.aload_n 0, 1) := by decide +kernel
theorem dX1_type_12 : decode cX1_type 12 = .ok (.getfield 28, 3) := by decide +kernel
theorem dX1_type_15 : decode cX1_type 15 = .ok (.aload_n 0, 1) := by decide +kernel
theorem dX1_type_16 : decode cX1_type 16 = .ok (.getfield 53, 3) := by decide +kernel
theorem dX1_type_19 : decode cX1_type 19 = .ok (.iload_n 1, 1) := by decide +kernel
theorem dX1_type_20 : decode cX1_type 20 = .ok (.iconst 3, 1) := by decide +kernel
theorem dX1_type_21 : decode cX1_type 21 = .ok (.iand, 1) := by decide +kernel
theorem dX1_type_22 : decode cX1_type 22 = .ok (.iastore, 1) := by decide +kernel
theorem dX1_type_23 : decode cX1_type 23 = .ok (.aload_n 0, 1) := by decide +kernel
theorem dX1_type_24 : decode cX1_type 24 = .ok (.dup, 1) := by decide +kernel
theorem dX1_type_25 : decode cX1_type 25 = .ok (.getfield 53, 3) := by decide +kernel
theorem dX1_type_28 : decode cX1_type 28 = .ok (.iconst 1, 1) := by decide +kernel
theorem dX1_type_29 : decode cX1_type 29 = .ok (.iadd, 1) := by decide +kernel
theorem dX1_type_30 : decode cX1_type 30 = .ok (.putfield 53, 3) := by decide +kernel
theorem dX1_type_33 : decode cX1_type 33 = .ok (.aload_n 0, 1) := by decide +kernel
theorem dX1_type_34 : decode cX1_type 34 = .ok (.getfield 53, 3) := by decide +kernel
theorem dX1_type_37 : decode cX1_type 37 = .ok (.ireturn, 1) := by decide +kernel
theorem dX1_erase_0 : decode cX1_erase 0 = .ok (.aload_n 0, 1) := by decide +kernel
theorem dX1_erase_1 : decode cX1_erase 1 = .ok (.iconst 0, 1) := by decide +kernel
theorem dX1_erase_2 : decode cX1_erase 2 = .ok (.putfield 53, 3) := by decide +kernel
theorem dX1_erase_5 : decode cX1_erase 5 = .ok (.return_, 1) := by decide +kernel
theorem dX1_words_0 : decode cX1_words 0 = .ok (.aload_n 0, 1) := by decide +kernel
theorem dX1_words_1 : decode cX1_words 1 = .ok (.invokevirtual 77, 3) := by decide +kernel
theorem dX1_words_4 : decode cX1_words 4 = .ok (.iconst 0, 1) := by decide +kernel
theorem dX1_words_5 : decode cX1_words 5 = .ok (.istore_n 1, 1) := by decide +kernel
theorem dX1_words_6 : decode cX1_words 6 = .ok (.iconst 0, 1) := by decide +kernel
theorem dX1_words_7 : decode cX1_words 7 = .ok (.istore_n 2, 1) := by decide +kernel
theorem dX1_words_8 : decode cX1_words 8 = .ok (.iload_n 2, 1) := by decide +kernel
theorem dX1_words_9 : decode cX1_words 9 = .ok (.aload_n 0, 1) := by decide +kernel
theorem dX1_words_10 : decode cX1_words 10 = .ok (.getfield 53, 3) := by decide +kernel
theorem dX1_words_13 : decode cX1_words 13 = .ok (.if_icmp .ge 21, 3) := by decide +kernel
theorem dX1_words_16 : decode cX1_words 16 = .ok (.iload_n 1, 1) := by decide +kernel
theorem dX1_words_17 : decode cX1_words 17 = .ok (.bipush 30, 2) := by decide +kernel
theorem dX1_words_19 : decode cX1_words 19 = .ok (.if_icmp .ge 15, 3) := by decide +kernel
theorem dX1_words_22 : decode cX1_words 22 = .ok (.aload_n 0, 1) := by decide +kernel
theorem dX1_words_23 : decode cX1_words 23 = .ok (.iload_n 2, 1) := by decide +kernel
theorem dX1_words_24 : decode cX1_words 24 = .ok (.invokevirtual 80, 3) := by decide +kernel
theorem dX1_words_27 : decode cX1_words 27 = .ok (.istore_n 2, 1) := by decide +kernel
theorem dX1_words_28 : decode cX1_words 28 = .ok (.iinc 1 1, 3) := by decide +kernel
theorem dX1_words_31 : decode cX1_words 31 = .ok (.goto (-23), 3) := by decide +kernel
theorem dX1_words_34 : decode cX1_words 34 = .ok (.iload_n 1, 1) := by decide +kernel
theorem dX1_words_35 : decode cX1_words 35 = .ok (.ireturn, 1) := by decide +kernel
theorem dX1_workText_0 : decode cX1_workText 0 = .ok (.aload_n 0, 1) := by decide +kernel
theorem dX1_workText_1 : decode cX1_workText 1 = .ok (.aload_n 0, 1) := by decide +kernel
theorem dX1_workText_2 : decode cX1_workText 2 = .ok (.getfield 53, 3) := by decide +kernel
theorem dX1_workText_5 : decode cX1_workText 5 = .ok (.putfield 64, 3) := by decide +kernel
theorem dX1_workText_8 : decode cX1_workText 8 = .ok (.iconst 0, 1) := by decide +kernel
theorem dX1_workText_9 : decode cX1_workText 9 = .ok (.istore_n 1, 1) := by decide +kernel
theorem dX1_workText_10 : decode cX1_workText 10 = .ok (.iload_n 1, 1) := by decide +kernel
theorem dX1_workText_11 : decode cX1_workText 11 = .ok (.aload_n 0, 1) := by decide +kernel
theorem dX1_workText_12 : decode cX1_workText 12 = .ok (.getfield 53, 3) := by decide +kernel
theorem dX1_workText_15 : decode cX1_workText 15 = .ok (.if_icmp .ge 21, 3) := by decide +kernel
theorem dX1_workText_18 : decode cX1_workText 18 = .ok (.aload_n 0, 1) := by decide +kernel
theorem dX1_workText_19 : decode cX1_workText 19 = .ok (.getfield 31, 3) := by decide +kernel
theorem dX1_workText_22 : decode cX1_workText 22 = .ok (.iload_n 1, 1) := by decide +kernel
theorem dX1_workText_23 : decode cX1_workText 23 = .ok (.aload_n 0, 1) := by decide +kernel
theorem dX1_workText_24 : decode cX1_workText 24 = .ok (.getfield 28, 3) := by decide +kernel
theorem dX1_workText_27 : decode cX1_workText 27 = .ok (.iload_n 1, 1) := by decide +kernel
theorem dX1_workText_28 : decode cX1_workText 28 = .ok (.iaload, 1) := by decide +kernel
theorem dX1_workText_29 : decode cX1_workText 29 = .ok (.iastore, 1) := by decide +kernel
theorem dX1_workText_30 : decode cX1_workText 30 = .ok (.iinc 1 1, 3) := by decide +kernel
theorem dX1_workText_33 : decode cX1_workText 33 = .ok (.goto (-23), 3) := by decide +kernel
theorem dX1_workText_36 : decode cX1_workText 36 = .ok (.aload_n 0, 1) := by decide +kernel
theorem dX1_workText_37 : decode cX1_workText 37 = .ok (.invokevirtual 70, 3) := by decide +kernel
theorem dX1_workText_40 : decode cX1_workText 40 = .ok (.return_, 1) := by decide +kernel
theorem dX1_work_0 : decode cX1_work 0 = .ok (.iconst 0, 1) := by decide +kernel
theorem dX1_work_1 : decode cX1_work 1 = .ok (.istore_n 1, 1) := by decide +kernel
theorem dX1_work_2 : decode cX1_work 2 = .ok (.iload_n 1, 1) := by decide +kernel
theorem dX1_work_3 : decode cX1_work 3 = .ok (.aload_n 0, 1) := by decide +kernel
theorem dX1_work_4 : decode cX1_work 4 = .ok (.getfield 47, 3) := by decide +kernel
theorem dX1_work_7 : decode cX1_work 7 = .ok (.if_icmp .ge 98, 3) := by decide +kernel
theorem dX1_work_10 : decode cX1_work 10 = .ok (.iconst 0, 1) := by decide +kernel
theorem dX1_work_11 : decode cX1_work 11 = .ok (.istore_n 2, 1) := by decide +kernel
theorem dX1_work_12 : decode cX1_work 12 = .ok (.iload_n 2, 1) := by decide +kernel
theorem dX1_work_13 : decode cX1_work 13 = .ok (.aload_n 0, 1) := by decide +kernel
theorem dX1_work_14 : decode cX1_work 14 = .ok (.getfield 64, 3) := by decide +kernel
theorem dX1_work_17 : decode cX1_work 17 = .ok (.iconst 1, 1) := by decide +kernel
theorem dX1_work_18 : decode cX1_work 18 = .ok (.iadd, 1) := by decide +kernel
theorem dX1_work_19 : decode cX1_work 19 = .ok (.aload_n 0, 1) := by decide +kernel
theorem dX1_work_20 : decode cX1_work 20 = .ok (.getfield 64, 3) := by decide +kernel
theorem dX1_work_23 : decode cX1_work 23 = .ok (.iconst 1, 1) := by decide +kernel
theorem dX1_work_24 : decode cX1_work 24 = .ok (.iadd, 1) := by decide +kernel
theorem dX1_work_25 : decode cX1_work 25 = .ok (.imul, 1) := by decide +kernel
theorem dX1_work_26 : decode cX1_work 26 = .ok (.if_icmp .ge 73, 3) := by decide +kernel
theorem dX1_work_29 : decode cX1_work 29 = .ok (.aload_n 0, 1) := by decide +kernel
theorem dX1_work_30 : decode cX1_work 30 = .ok (.getfield 64, 3) := by decide +kernel
theorem dX1_work_33 : decode cX1_work 33 = .ok (.iload_n 2, 1) := by decide +kernel
theorem dX1_work_34 : decode cX1_work 34 = .ok (.aload_n 0, 1) := by decide +kernel
theorem dX1_work_35 : decode cX1_work 35 = .ok (.getfield 64, 3) := by decide +kernel
theorem dX1_work_38 : decode cX1_work 38 = .ok (.iconst 1, 1) := by decide +kernel
theorem dX1_work_39 : decode cX1_work 39 = .ok (.iadd, 1) := by decide +kernel
theorem dX1_work_40 : decode cX1_work 40 = .ok (.idiv, 1) := by decide +kernel
theorem dX1_work_41 : decode cX1_work 41 = .ok (.isub, 1) := by decide +kernel
theorem dX1_work_42 : decode cX1_work 42 = .ok (.istore_n 3, 1) := by decide +kernel
theorem dX1_work_43 : decode cX1_work 43 = .ok (.iload_n 2, 1) := by decide +kernel
theorem dX1_work_44 : decode cX1_work 44 = .ok (.aload_n 0, 1) := by decide +kernel
theorem dX1_work_45 : decode cX1_work 45 = .ok (.getfield 64, 3) := by decide +kernel
theorem dX1_work_48 : decode cX1_work 48 = .ok (.iconst 1, 1) := by decide +kernel
theorem dX1_work_49 : decode cX1_work 49 = .ok (.iadd, 1) := by decide +kernel
theorem dX1_work_50 : decode cX1_work 50 = .ok (.irem, 1) := by decide +kernel
theorem dX1_work_51 : decode cX1_work 51 = .ok (.istore 4, 2) := by decide +kernel
theorem dX1_work_53 : decode cX1_work 53 = .ok (.aload_n 0, 1) := by decide +kernel
theorem dX1_work_54 : decode cX1_work 54 = .ok (.getfield 35, 3) := by decide +kernel
theorem dX1_work_57 : decode cX1_work 57 = .ok (.sipush 961, 3) := by decide +kernel
theorem dX1_work_60 : decode cX1_work 60 = .ok (.iload_n 1, 1) := by decide +kernel
theorem dX1_work_61 : decode cX1_work 61 = .ok (.imul, 1) := by decide +kernel
theorem dX1_work_62 : decode cX1_work 62 = .ok (.bipush 31, 2) := by decide +kernel
theorem dX1_work_64 : decode cX1_work 64 = .ok (.iload_n 3, 1) := by decide +kernel
theorem dX1_work_65 : decode cX1_work 65 = .ok (.imul, 1) := by decide +kernel
theorem dX1_work_66 : decode cX1_work 66 = .ok (.iadd, 1) := by decide +kernel
theorem dX1_work_67 : decode cX1_work 67 = .ok (.iload 4, 2) := by decide +kernel
theorem dX1_work_69 : decode cX1_work 69 = .ok (.iadd, 1) := by decide +kernel
theorem dX1_work_70 : decode cX1_work 70 = .ok (.iload_n 3, 1) := by decide +kernel
theorem dX1_work_71 : decode cX1_work 71 = .ok (.iload 4, 2) := by decide +kernel
theorem dX1_work_73 : decode cX1_work 73 = .ok (.if_icmp .gt 18, 3) := by decide +kernel
theorem dX1_work_76 : decode cX1_work 76 = .ok (.aload_n 0, 1) := by decide +kernel
theorem dX1_work_77 : decode cX1_work 77 = .ok (.iload_n 1, 1) := by decide +kernel
theorem dX1_work_78 : decode cX1_work 78 = .ok (.iload_n 3, 1) := by decide +kernel
theorem dX1_work_79 : decode cX1_work 79 = .ok (.iload 4, 2) := by decide +kernel
theorem dX1_work_81 : decode cX1_work 81 = .ok (.invokevirtual 67, 3) := by decide +kernel
theorem dX1_work_84 : decode cX1_work 84 = .ok (.ifCond .eq 7, 3) := by decide +kernel
theorem dX1_work_87 : decode cX1_work 87 = .ok (.iconst 1, 1) := by decide +kernel
theorem dX1_work_88 : decode cX1_work 88 = .ok (.goto 4, 3) := by decide +kernel
theorem dX1_work_91 : decode cX1_work 91 = .ok (.iconst 0, 1) := by decide +kernel
theorem dX1_work_92 : decode cX1_work 92 = .ok (.bastore, 1) := by decide +kernel
theorem dX1_work_93 : decode cX1_work 93 = .ok (.iinc 2 1, 3) := by decide +kernel
theorem dX1_work_96 : decode cX1_work 96 = .ok (.goto (-84), 3) := by decide +kernel
theorem dX1_work_99 : decode cX1_work 99 = .ok (.iinc 1 1, 3) := by decide +kernel
theorem dX1_work_102 : decode cX1_work 102 = .ok (.goto (-100), 3) := by decide +kernel
theorem dX1_work_105 : decode cX1_work 105 = .ok (.return_, 1) := by decide +kernel
end
section
set_option maxRecDepth 100000
theorem dX1_matched_0 : decode cX1_matched 0 = .ok (.aload_n 0, 1) := by decide +kernel
theorem dX1_matched_1 : decode cX1_matched 1 = .ok (.getfield 7, 3) := by decide +kernel
theorem dX1_matched_4 : decode cX1_matched 4 = .ok (.iload_n 1, 1) := by decide +kernel
theorem dX1_matched_5 : decode cX1_matched 5 = .ok (.iaload, 1) := by decide +kernel
theorem dX1_matched_6 : decode cX1_matched 6 = .ok (.istore 4, 2) := by decide +kernel
theorem dX1_matched_8 : decode cX1_matched 8 = .ok (.aload_n 0, 1) := by decide +kernel
theorem dX1_matched_9 : decode cX1_matched 9 = .ok (.getfield 19, 3) := by decide +kernel
theorem dX1_matched_12 : decode cX1_matched 12 = .ok (.iload_n 1, 1) := by decide +kernel
theorem dX1_matched_13 : decode cX1_matched 13 = .ok (.iaload, 1) := by decide +kernel
theorem dX1_matched_14 : decode cX1_matched 14 = .ok (.istore 5, 2) := by decide +kernel
theorem dX1_matched_16 : decode cX1_matched 16 = .ok (.iload 4, 2) := by decide +kernel
theorem dX1_matched_18 : decode cX1_matched 18 = .ok (.ifCond .ne 31, 3) := by decide +kernel
theorem dX1_matched_21 : decode cX1_matched 21 = .ok (.iload_n 3, 1) := by decide +kernel
theorem dX1_matched_22 : decode cX1_matched 22 = .ok (.iload_n 2, 1) := by decide +kernel
theorem dX1_matched_23 : decode cX1_matched 23 = .ok (.iconst 1, 1) := by decide +kernel
theorem dX1_matched_24 : decode cX1_matched 24 = .ok (.iadd, 1) := by decide +kernel
theorem dX1_matched_25 : decode cX1_matched 25 = .ok (.if_icmp .ne 22, 3) := by decide +kernel
theorem dX1_matched_28 : decode cX1_matched 28 = .ok (.aload_n 0, 1) := by decide +kernel
theorem dX1_matched_29 : decode cX1_matched 29 = .ok (.getfield 31, 3) := by decide +kernel
theorem dX1_matched_32 : decode cX1_matched 32 = .ok (.iload_n 2, 1) := by decide +kernel
theorem dX1_matched_33 : decode cX1_matched 33 = .ok (.iaload, 1) := by decide +kernel
theorem dX1_matched_34 : decode cX1_matched 34 = .ok (.aload_n 0, 1) := by decide +kernel
theorem dX1_matched_35 : decode cX1_matched 35 = .ok (.getfield 13, 3) := by decide +kernel
theorem dX1_matched_38 : decode cX1_matched 38 = .ok (.iload_n 1, 1) := by decide +kernel
theorem dX1_matched_39 : decode cX1_matched 39 = .ok (.iaload, 1) := by decide +kernel
theorem dX1_matched_40 : decode cX1_matched 40 = .ok (.if_icmp .ne 7, 3) := by decide +kernel
theorem dX1_matched_43 : decode cX1_matched 43 = .ok (.iconst 1, 1) := by decide +kernel
theorem dX1_matched_44 : decode cX1_matched 44 = .ok (.goto 4, 3) := by decide +kernel
theorem dX1_matched_47 : decode cX1_matched 47 = .ok (.iconst 0, 1) := by decide +kernel
theorem dX1_matched_48 : decode cX1_matched 48 = .ok (.ireturn, 1) := by decide +kernel
theorem dX1_matched_49 : decode cX1_matched 49 = .ok (.iload 4, 2) := by decide +kernel
theorem dX1_matched_51 : decode cX1_matched 51 = .ok (.iconst 1, 1) := by decide +kernel
theorem dX1_matched_52 : decode cX1_matched 52 = .ok (.if_icmp .ne 16, 3) := by decide +kernel
theorem dX1_matched_55 : decode cX1_matched 55 = .ok (.iload_n 3, 1) := by decide +kernel
theorem dX1_matched_56 : decode cX1_matched 56 = .ok (.iload_n 2, 1) := by decide +kernel
theorem dX1_matched_57 : decode cX1_matched 57 = .ok (.iconst 1, 1) := by decide +kernel
theorem dX1_matched_58 : decode cX1_matched 58 = .ok (.iadd, 1) := by decide +kernel
theorem dX1_matched_59 : decode cX1_matched 59 = .ok (.if_icmp .ne 7, 3) := by decide +kernel
theorem dX1_matched_62 : decode cX1_matched 62 = .ok (.iconst 1, 1) := by decide +kernel
theorem dX1_matched_63 : decode cX1_matched 63 = .ok (.goto 4, 3) := by decide +kernel
theorem dX1_matched_66 : decode cX1_matched 66 = .ok (.iconst 0, 1) := by decide +kernel
theorem dX1_matched_67 : decode cX1_matched 67 = .ok (.ireturn, 1) := by decide +kernel
theorem dX1_matched_68 : decode cX1_matched 68 = .ok (.iload 4, 2) := by decide +kernel
theorem dX1_matched_70 : decode cX1_matched 70 = .ok (.iconst 2, 1) := by decide +kernel
theorem dX1_matched_71 : decode cX1_matched 71 = .ok (.if_icmp .ne 14, 3) := by decide +kernel
theorem dX1_matched_74 : decode cX1_matched 74 = .ok (.iload_n 2, 1) := by decide +kernel
theorem dX1_matched_75 : decode cX1_matched 75 = .ok (.iload_n 3, 1) := by decide +kernel
theorem dX1_matched_76 : decode cX1_matched 76 = .ok (.if_icmp .ne 7, 3) := by decide +kernel
theorem dX1_matched_79 : decode cX1_matched 79 = .ok (.iconst 1, 1) := by decide +kernel
theorem dX1_matched_80 : decode cX1_matched 80 = .ok (.goto 4, 3) := by decide +kernel
theorem dX1_matched_83 : decode cX1_matched 83 = .ok (.iconst 0, 1) := by decide +kernel
theorem dX1_matched_84 : decode cX1_matched 84 = .ok (.ireturn, 1) := by decide +kernel
theorem dX1_matched_85 : decode cX1_matched 85 = .ok (.iload 4, 2) := by decide +kernel
theorem dX1_matched_87 : decode cX1_matched 87 = .ok (.iconst 3, 1) := by decide +kernel
theorem dX1_matched_88 : decode cX1_matched 88 = .ok (.if_icmp .ne 19, 3) := by decide +kernel
theorem dX1_matched_91 : decode cX1_matched 91 = .ok (.aload_n 0, 1) := by decide +kernel
theorem dX1_matched_92 : decode cX1_matched 92 = .ok (.aload_n 0, 1) := by decide +kernel
theorem dX1_matched_93 : decode cX1_matched 93 = .ok (.getfield 16, 3) := by decide +kernel
theorem dX1_matched_96 : decode cX1_matched 96 = .ok (.iload_n 1, 1) := by decide +kernel
theorem dX1_matched_97 : decode cX1_matched 97 = .ok (.iaload, 1) := by decide +kernel
theorem dX1_matched_98 : decode cX1_matched 98 = .ok (.iload 5, 2) := by decide +kernel
theorem dX1_matched_100 : decode cX1_matched 100 = .ok (.iload_n 2, 1) := by decide +kernel
theorem dX1_matched_101 : decode cX1_matched 101 = .ok (.iload_n 3, 1) := by decide +kernel
theorem dX1_matched_102 : decode cX1_matched 102 = .ok (.iconst 0, 1) := by decide +kernel
theorem dX1_matched_103 : decode cX1_matched 103 = .ok (.invokevirtual 60, 3) := by decide +kernel
theorem dX1_matched_106 : decode cX1_matched 106 = .ok (.ireturn, 1) := by decide +kernel
theorem dX1_matched_107 : decode cX1_matched 107 = .ok (.iload 4, 2) := by decide +kernel
theorem dX1_matched_109 : decode cX1_matched 109 = .ok (.iconst 4, 1) := by decide +kernel
theorem dX1_matched_110 : decode cX1_matched 110 = .ok (.if_icmp .ne 35, 3) := by decide +kernel
theorem dX1_matched_113 : decode cX1_matched 113 = .ok (.aload_n 0, 1) := by decide +kernel
theorem dX1_matched_114 : decode cX1_matched 114 = .ok (.aload_n 0, 1) := by decide +kernel
theorem dX1_matched_115 : decode cX1_matched 115 = .ok (.getfield 16, 3) := by decide +kernel
theorem dX1_matched_118 : decode cX1_matched 118 = .ok (.iload_n 1, 1) := by decide +kernel
theorem dX1_matched_119 : decode cX1_matched 119 = .ok (.iaload, 1) := by decide +kernel
theorem dX1_matched_120 : decode cX1_matched 120 = .ok (.iload_n 2, 1) := by decide +kernel
theorem dX1_matched_121 : decode cX1_matched 121 = .ok (.iload_n 3, 1) := by decide +kernel
theorem dX1_matched_122 : decode cX1_matched 122 = .ok (.invokevirtual 56, 3) := by decide +kernel
theorem dX1_matched_125 : decode cX1_matched 125 = .ok (.ifCond .ne 14, 3) := by decide +kernel
theorem dX1_matched_128 : decode cX1_matched 128 = .ok (.aload_n 0, 1) := by decide +kernel
theorem dX1_matched_129 : decode cX1_matched 129 = .ok (.iload 5, 2) := by decide +kernel
theorem dX1_matched_131 : decode cX1_matched 131 = .ok (.iload_n 2, 1) := by decide +kernel
theorem dX1_matched_132 : decode cX1_matched 132 = .ok (.iload_n 3, 1) := by decide +kernel
theorem dX1_matched_133 : decode cX1_matched 133 = .ok (.invokevirtual 56, 3) := by decide +kernel
theorem dX1_matched_136 : decode cX1_matched 136 = .ok (.ifCond .eq 7, 3) := by decide +kernel
theorem dX1_matched_139 : decode cX1_matched 139 = .ok (.iconst 1, 1) := by decide +kernel
theorem dX1_matched_140 : decode cX1_matched 140 = .ok (.goto 4, 3) := by decide +kernel
theorem dX1_matched_143 : decode cX1_matched 143 = .ok (.iconst 0, 1) := by decide +kernel
theorem dX1_matched_144 : decode cX1_matched 144 = .ok (.ireturn, 1) := by decide +kernel
theorem dX1_matched_145 : decode cX1_matched 145 = .ok (.iload 4, 2) := by decide +kernel
theorem dX1_matched_147 : decode cX1_matched 147 = .ok (.bipush 7, 2) := by decide +kernel
theorem dX1_matched_149 : decode cX1_matched 149 = .ok (.if_icmp .ne 5, 3) := by decide +kernel
theorem dX1_matched_152 : decode cX1_matched 152 = .ok (.iconst 0, 1) := by decide +kernel
theorem dX1_matched_153 : decode cX1_matched 153 = .ok (.ireturn, 1) := by decide +kernel
theorem dX1_matched_154 : decode cX1_matched 154 = .ok (.aload_n 0, 1) := by decide +kernel
theorem dX1_matched_155 : decode cX1_matched 155 = .ok (.iload 5, 2) := by decide +kernel
theorem dX1_matched_157 : decode cX1_matched 157 = .ok (.iload_n 1, 1) := by decide +kernel
theorem dX1_matched_158 : decode cX1_matched 158 = .ok (.iload_n 2, 1) := by decide +kernel
theorem dX1_matched_159 : decode cX1_matched 159 = .ok (.iload_n 3, 1) := by decide +kernel
theorem dX1_matched_160 : decode cX1_matched 160 = .ok (.iconst 1, 1) := by decide +kernel
theorem dX1_matched_161 : decode cX1_matched 161 = .ok (.invokevirtual 60, 3) := by decide +kernel
theorem dX1_matched_164 : decode cX1_matched 164 = .ok (.istore 6, 2) := by decide +kernel
theorem dX1_matched_166 : decode cX1_matched 166 = .ok (.iload 4, 2) := by decide +kernel
theorem dX1_matched_168 : decode cX1_matched 168 = .ok (.iconst 5, 1) := by decide +kernel
theorem dX1_matched_169 : decode cX1_matched 169 = .ok (.if_icmp .ne 21, 3) := by decide +kernel
theorem dX1_matched_172 : decode cX1_matched 172 = .ok (.iload_n 2, 1) := by decide +kernel
theorem dX1_matched_173 : decode cX1_matched 173 = .ok (.iload_n 3, 1) := by decide +kernel
theorem dX1_matched_174 : decode cX1_matched 174 = .ok (.if_icmp .eq 8, 3) := by decide +kernel
theorem dX1_matched_177 : decode cX1_matched 177 = .ok (.iload 6, 2) := by decide +kernel
theorem dX1_matched_179 : decode cX1_matched 179 = .ok (.ifCond .eq 7, 3) := by decide +kernel
theorem dX1_matched_182 : decode cX1_matched 182 = .ok (.iconst 1, 1) := by decide +kernel
theorem dX1_matched_183 : decode cX1_matched 183 = .ok (.goto 28, 3) := by decide +kernel
theorem dX1_matched_186 : decode cX1_matched 186 = .ok (.iconst 0, 1) := by decide +kernel
theorem dX1_matched_187 : decode cX1_matched 187 = .ok (.goto 24, 3) := by decide +kernel
theorem dX1_matched_190 : decode cX1_matched 190 = .ok (.aload_n 0, 1) := by decide +kernel
theorem dX1_matched_191 : decode cX1_matched 191 = .ok (.iload 5, 2) := by decide +kernel
theorem dX1_matched_193 : decode cX1_matched 193 = .ok (.iload_n 2, 1) := by decide +kernel
theorem dX1_matched_194 : decode cX1_matched 194 = .ok (.iload_n 3, 1) := by decide +kernel
theorem dX1_matched_195 : decode cX1_matched 195 = .ok (.invokevirtual 56, 3) := by decide +kernel
theorem dX1_matched_198 : decode cX1_matched 198 = .ok (.ifCond .ne 8, 3) := by decide +kernel
theorem dX1_matched_201 : decode cX1_matched 201 = .ok (.iload 6, 2) := by decide +kernel
theorem dX1_matched_203 : decode cX1_matched 203 = .ok (.ifCond .eq 7, 3) := by decide +kernel
theorem dX1_matched_206 : decode cX1_matched 206 = .ok (.iconst 1, 1) := by decide +kernel
theorem dX1_matched_207 : decode cX1_matched 207 = .ok (.goto 4, 3) := by decide +kernel
theorem dX1_matched_210 : decode cX1_matched 210 = .ok (.iconst 0, 1) := by decide +kernel
theorem dX1_matched_211 : decode cX1_matched 211 = .ok (.ireturn, 1) := by decide +kernel
theorem dX1_both_0 : decode cX1_both 0 = .ok (.iload_n 3, 1) := by decide +kernel
theorem dX1_both_1 : decode cX1_both 1 = .ok (.iload 5, 2) := by decide +kernel
theorem dX1_both_3 : decode cX1_both 3 = .ok (.iadd, 1) := by decide +kernel
theorem dX1_both_4 : decode cX1_both 4 = .ok (.istore 6, 2) := by decide +kernel
theorem dX1_both_6 : decode cX1_both 6 = .ok (.iload 6, 2) := by decide +kernel
theorem dX1_both_8 : decode cX1_both 8 = .ok (.iload 4, 2) := by decide +kernel
theorem dX1_both_10 : decode cX1_both 10 = .ok (.if_icmp .gt 34, 3) := by decide +kernel
theorem dX1_both_13 : decode cX1_both 13 = .ok (.aload_n 0, 1) := by decide +kernel
theorem dX1_both_14 : decode cX1_both 14 = .ok (.iload_n 1, 1) := by decide +kernel
theorem dX1_both_15 : decode cX1_both 15 = .ok (.iload_n 3, 1) := by decide +kernel
theorem dX1_both_16 : decode cX1_both 16 = .ok (.iload 6, 2) := by decide +kernel
theorem dX1_both_18 : decode cX1_both 18 = .ok (.invokevirtual 56, 3) := by decide +kernel
theorem dX1_both_21 : decode cX1_both 21 = .ok (.ifCond .eq 17, 3) := by decide +kernel
theorem dX1_both_24 : decode cX1_both 24 = .ok (.aload_n 0, 1) := by decide +kernel
theorem dX1_both_25 : decode cX1_both 25 = .ok (.iload_n 2, 1) := by decide +kernel
theorem dX1_both_26 : decode cX1_both 26 = .ok (.iload 6, 2) := by decide +kernel
theorem dX1_both_28 : decode cX1_both 28 = .ok (.iload 4, 2) := by decide +kernel
theorem dX1_both_30 : decode cX1_both 30 = .ok (.invokevirtual 56, 3) := by decide +kernel
theorem dX1_both_33 : decode cX1_both 33 = .ok (.ifCond .eq 5, 3) := by decide +kernel
theorem dX1_both_36 : decode cX1_both 36 = .ok (.iconst 1, 1) := by decide +kernel
theorem dX1_both_37 : decode cX1_both 37 = .ok (.ireturn, 1) := by decide +kernel
theorem dX1_both_38 : decode cX1_both 38 = .ok (.iinc 6 1, 3) := by decide +kernel
theorem dX1_both_41 : decode cX1_both 41 = .ok (.goto (-35), 3) := by decide +kernel
theorem dX1_both_44 : decode cX1_both 44 = .ok (.iconst 0, 1) := by decide +kernel
theorem dX1_both_45 : decode cX1_both 45 = .ok (.ireturn, 1) := by decide +kernel
theorem dX1_is_0 : decode cX1_is 0 = .ok (.aload_n 0, 1) := by decide +kernel
theorem dX1_is_1 : decode cX1_is 1 = .ok (.getfield 35, 3) := by decide +kernel
theorem dX1_is_4 : decode cX1_is 4 = .ok (.sipush 961, 3) := by decide +kernel
theorem dX1_is_7 : decode cX1_is 7 = .ok (.iload_n 1, 1) := by decide +kernel
theorem dX1_is_8 : decode cX1_is 8 = .ok (.imul, 1) := by decide +kernel
theorem dX1_is_9 : decode cX1_is 9 = .ok (.bipush 31, 2) := by decide +kernel
theorem dX1_is_11 : decode cX1_is 11 = .ok (.iload_n 2, 1) := by decide +kernel
theorem dX1_is_12 : decode cX1_is 12 = .ok (.imul, 1) := by decide +kernel
theorem dX1_is_13 : decode cX1_is 13 = .ok (.iadd, 1) := by decide +kernel
theorem dX1_is_14 : decode cX1_is 14 = .ok (.iload_n 3, 1) := by decide +kernel
theorem dX1_is_15 : decode cX1_is 15 = .ok (.iadd, 1) := by decide +kernel
theorem dX1_is_16 : decode cX1_is 16 = .ok (.baload, 1) := by decide +kernel
theorem dX1_is_17 : decode cX1_is 17 = .ok (.ireturn, 1) := by decide +kernel
theorem dX1_end_0 : decode cX1_end 0 = .ok (.aload_n 0, 1) := by decide +kernel
theorem dX1_end_1 : decode cX1_end 1 = .ok (.getfield 53, 3) := by decide +kernel
theorem dX1_end_4 : decode cX1_end 4 = .ok (.istore_n 2, 1) := by decide +kernel
theorem dX1_end_5 : decode cX1_end 5 = .ok (.iload_n 2, 1) := by decide +kernel
theorem dX1_end_6 : decode cX1_end 6 = .ok (.iload_n 1, 1) := by decide +kernel
theorem dX1_end_7 : decode cX1_end 7 = .ok (.if_icmp .le 20, 3) := by decide +kernel
theorem dX1_end_10 : decode cX1_end 10 = .ok (.aload_n 0, 1) := by decide +kernel
theorem dX1_end_11 : decode cX1_end 11 = .ok (.iload_n 1, 1) := by decide +kernel
theorem dX1_end_12 : decode cX1_end 12 = .ok (.iload_n 2, 1) := by decide +kernel
theorem dX1_end_13 : decode cX1_end 13 = .ok (.invokevirtual 73, 3) := by decide +kernel
theorem dX1_end_16 : decode cX1_end 16 = .ok (.ifCond .lt 5, 3) := by decide +kernel
theorem dX1_end_19 : decode cX1_end 19 = .ok (.iload_n 2, 1) := by decide +kernel
theorem dX1_end_20 : decode cX1_end 20 = .ok (.ireturn, 1) := by decide +kernel
theorem dX1_end_21 : decode cX1_end 21 = .ok (.iinc 2 (-1), 3) := by decide +kernel
theorem dX1_end_24 : decode cX1_end 24 = .ok (.goto (-19), 3) := by decide +kernel
theorem dX1_end_27 : decode cX1_end 27 = .ok (.iload_n 1, 1) := by decide +kernel
theorem dX1_end_28 : decode cX1_end 28 = .ok (.iconst 1, 1) := by decide +kernel
theorem dX1_end_29 : decode cX1_end 29 = .ok (.iadd, 1) := by decide +kernel
theorem dX1_end_30 : decode cX1_end 30 = .ok (.ireturn, 1) := by decide +kernel
theorem dX1_least_0 : decode cX1_least 0 = .ok (.iconst 0, 1) := by decide +kernel
theorem dX1_least_1 : decode cX1_least 1 = .ok (.istore_n 3, 1) := by decide +kernel
theorem dX1_least_2 : decode cX1_least 2 = .ok (.iload_n 3, 1) := by decide +kernel
theorem dX1_least_3 : decode cX1_least 3 = .ok (.aload_n 0, 1) := by decide +kernel
theorem dX1_least_4 : decode cX1_least 4 = .ok (.getfield 50, 3) := by decide +kernel
theorem dX1_least_7 : decode cX1_least 7 = .ok (.if_icmp .ge 26, 3) := by decide +kernel
theorem dX1_least_10 : decode cX1_least 10 = .ok (.aload_n 0, 1) := by decide +kernel
theorem dX1_least_11 : decode cX1_least 11 = .ok (.aload_n 0, 1) := by decide +kernel
theorem dX1_least_12 : decode cX1_least 12 = .ok (.getfield 25, 3) := by decide +kernel
theorem dX1_least_15 : decode cX1_least 15 = .ok (.iload_n 3, 1) := by decide +kernel
theorem dX1_least_16 : decode cX1_least 16 = .ok (.iaload, 1) := by decide +kernel
theorem dX1_least_17 : decode cX1_least 17 = .ok (.iload_n 1, 1) := by decide +kernel
theorem dX1_least_18 : decode cX1_least 18 = .ok (.iload_n 2, 1) := by decide +kernel
theorem dX1_least_19 : decode cX1_least 19 = .ok (.invokevirtual 56, 3) := by decide +kernel
theorem dX1_least_22 : decode cX1_least 22 = .ok (.ifCond .eq 5, 3) := by decide +kernel
theorem dX1_least_25 : decode cX1_least 25 = .ok (.iload_n 3, 1) := by decide +kernel
theorem dX1_least_26 : decode cX1_least 26 = .ok (.ireturn, 1) := by decide +kernel
theorem dX1_least_27 : decode cX1_least 27 = .ok (.iinc 3 1, 3) := by decide +kernel
theorem dX1_least_30 : decode cX1_least 30 = .ok (.goto (-28), 3) := by decide +kernel
theorem dX1_least_33 : decode cX1_least 33 = .ok (.iconst (-1), 1) := by decide +kernel
theorem dX1_least_34 : decode cX1_least 34 = .ok (.ireturn, 1) := by decide +kernel
theorem dX1_sort_0 : decode cX1_sort 0 = .ok (.aload_n 0, 1) := by decide +kernel
theorem dX1_sort_1 : decode cX1_sort 1 = .ok (.iload_n 1, 1) := by decide +kernel
theorem dX1_sort_2 : decode cX1_sort 2 = .ok (.invokevirtual 83, 3) := by decide +kernel
theorem dX1_sort_5 : decode cX1_sort 5 = .ok (.istore_n 2, 1) := by decide +kernel
theorem dX1_sort_6 : decode cX1_sort 6 = .ok (.iload_n 2, 1) := by decide +kernel
theorem dX1_sort_7 : decode cX1_sort 7 = .ok (.ifCond .ge 6, 3) := by decide +kernel
theorem dX1_sort_10 : decode cX1_sort 10 = .ok (.bipush (-2), 2) := by decide +kernel
theorem dX1_sort_12 : decode cX1_sort 12 = .ok (.ireturn, 1) := by decide +kernel
theorem dX1_sort_13 : decode cX1_sort 13 = .ok (.aload_n 0, 1) := by decide +kernel
theorem dX1_sort_14 : decode cX1_sort 14 = .ok (.iload_n 2, 1) := by decide +kernel
theorem dX1_sort_15 : decode cX1_sort 15 = .ok (.invokevirtual 80, 3) := by decide +kernel
theorem dX1_sort_18 : decode cX1_sort 18 = .ok (.istore_n 3, 1) := by decide +kernel
theorem dX1_sort_19 : decode cX1_sort 19 = .ok (.aload_n 0, 1) := by decide +kernel
theorem dX1_sort_20 : decode cX1_sort 20 = .ok (.iload_n 2, 1) := by decide +kernel
theorem dX1_sort_21 : decode cX1_sort 21 = .ok (.iload_n 3, 1) := by decide +kernel
theorem dX1_sort_22 : decode cX1_sort 22 = .ok (.invokevirtual 73, 3) := by decide +kernel
theorem dX1_sort_25 : decode cX1_sort 25 = .ok (.ireturn, 1) := by decide +kernel
theorem dX1_begin_0 : decode cX1_begin 0 = .ok (.aload_n 0, 1) := by decide +kernel
theorem dX1_begin_1 : decode cX1_begin 1 = .ok (.invokevirtual 77, 3) := by decide +kernel
theorem dX1_begin_4 : decode cX1_begin 4 = .ok (.iload_n 1, 1) := by decide +kernel
theorem dX1_begin_5 : decode cX1_begin 5 = .ok (.ifCond .ge 5, 3) := by decide +kernel
theorem dX1_begin_8 : decode cX1_begin 8 = .ok (.iconst (-1), 1) := by decide +kernel
theorem dX1_begin_9 : decode cX1_begin 9 = .ok (.ireturn, 1) := by decide +kernel
theorem dX1_begin_10 : decode cX1_begin 10 = .ok (.iconst 0, 1) := by decide +kernel
theorem dX1_begin_11 : decode cX1_begin 11 = .ok (.istore_n 2, 1) := by decide +kernel
theorem dX1_begin_12 : decode cX1_begin 12 = .ok (.iconst 0, 1) := by decide +kernel
theorem dX1_begin_13 : decode cX1_begin 13 = .ok (.istore_n 3, 1) := by decide +kernel
theorem dX1_begin_14 : decode cX1_begin 14 = .ok (.iload_n 3, 1) := by decide +kernel
theorem dX1_begin_15 : decode cX1_begin 15 = .ok (.iload_n 1, 1) := by decide +kernel
theorem dX1_begin_16 : decode cX1_begin 16 = .ok (.if_icmp .ge 23, 3) := by decide +kernel
theorem dX1_begin_19 : decode cX1_begin 19 = .ok (.iload_n 2, 1) := by decide +kernel
theorem dX1_begin_20 : decode cX1_begin 20 = .ok (.aload_n 0, 1) := by decide +kernel
theorem dX1_begin_21 : decode cX1_begin 21 = .ok (.getfield 53, 3) := by decide +kernel
theorem dX1_begin_24 : decode cX1_begin 24 = .ok (.if_icmp .ge 15, 3) := by decide +kernel
theorem dX1_begin_27 : decode cX1_begin 27 = .ok (.aload_n 0, 1) := by decide +kernel
theorem dX1_begin_28 : decode cX1_begin 28 = .ok (.iload_n 2, 1) := by decide +kernel
theorem dX1_begin_29 : decode cX1_begin 29 = .ok (.invokevirtual 80, 3) := by decide +kernel
theorem dX1_begin_32 : decode cX1_begin 32 = .ok (.istore_n 2, 1) := by decide +kernel
theorem dX1_begin_33 : decode cX1_begin 33 = .ok (.iinc 3 1, 3) := by decide +kernel
theorem dX1_begin_36 : decode cX1_begin 36 = .ok (.goto (-22), 3) := by decide +kernel
theorem dX1_begin_39 : decode cX1_begin 39 = .ok (.iload_n 2, 1) := by decide +kernel
theorem dX1_begin_40 : decode cX1_begin 40 = .ok (.aload_n 0, 1) := by decide +kernel
theorem dX1_begin_41 : decode cX1_begin 41 = .ok (.getfield 53, 3) := by decide +kernel
theorem dX1_begin_44 : decode cX1_begin 44 = .ok (.if_icmp .ge 7, 3) := by decide +kernel
theorem dX1_begin_47 : decode cX1_begin 47 = .ok (.iload_n 2, 1) := by decide +kernel
theorem dX1_begin_48 : decode cX1_begin 48 = .ok (.goto 4, 3) := by decide +kernel
theorem dX1_begin_51 : decode cX1_begin 51 = .ok (.iconst (-1), 1) := by decide +kernel
theorem dX1_begin_52 : decode cX1_begin 52 = .ok (.ireturn, 1) := by decide +kernel
theorem dX1_length_0 : decode cX1_length 0 = .ok (.aload_n 0, 1) := by decide +kernel
theorem dX1_length_1 : decode cX1_length 1 = .ok (.iload_n 1, 1) := by decide +kernel
theorem dX1_length_2 : decode cX1_length 2 = .ok (.invokevirtual 83, 3) := by decide +kernel
theorem dX1_length_5 : decode cX1_length 5 = .ok (.istore_n 2, 1) := by decide +kernel
theorem dX1_length_6 : decode cX1_length 6 = .ok (.iload_n 2, 1) := by decide +kernel
theorem dX1_length_7 : decode cX1_length 7 = .ok (.ifCond .ge 7, 3) := by decide +kernel
theorem dX1_length_10 : decode cX1_length 10 = .ok (.iconst 0, 1) := by decide +kernel
theorem dX1_length_11 : decode cX1_length 11 = .ok (.goto 10, 3) := by decide +kernel
theorem dX1_length_14 : decode cX1_length 14 = .ok (.aload_n 0, 1) := by decide +kernel
theorem dX1_length_15 : decode cX1_length 15 = .ok (.iload_n 2, 1) := by decide +kernel
theorem dX1_length_16 : decode cX1_length 16 = .ok (.invokevirtual 80, 3) := by decide +kernel
theorem dX1_length_19 : decode cX1_length 19 = .ok (.iload_n 2, 1) := by decide +kernel
theorem dX1_length_20 : decode cX1_length 20 = .ok (.isub, 1) := by decide +kernel
theorem dX1_length_21 : decode cX1_length 21 = .ok (.ireturn, 1) := by decide +kernel
theorem dX1_matches_0 : decode cX1_matches 0 = .ok (.iload_n 1, 1) := by decide +kernel
theorem dX1_matches_1 : decode cX1_matches 1 = .ok (.ifCond .lt 11, 3) := by decide +kernel
theorem dX1_matches_4 : decode cX1_matches 4 = .ok (.iload_n 1, 1) := by decide +kernel
theorem dX1_matches_5 : decode cX1_matches 5 = .ok (.aload_n 0, 1) := by decide +kernel
theorem dX1_matches_6 : decode cX1_matches 6 = .ok (.getfield 50, 3) := by decide +kernel
theorem dX1_matches_9 : decode cX1_matches 9 = .ok (.if_icmp .lt 5, 3) := by decide +kernel
theorem dX1_matches_12 : decode cX1_matches 12 = .ok (.iconst (-1), 1) := by decide +kernel
theorem dX1_matches_13 : decode cX1_matches 13 = .ok (.ireturn, 1) := by decide +kernel
theorem dX1_matches_14 : decode cX1_matches 14 = .ok (.aload_n 0, 1) := by decide +kernel
theorem dX1_matches_15 : decode cX1_matches 15 = .ok (.invokevirtual 77, 3) := by decide +kernel
theorem dX1_matches_18 : decode cX1_matches 18 = .ok (.aload_n 0, 1) := by decide +kernel
theorem dX1_matches_19 : decode cX1_matches 19 = .ok (.aload_n 0, 1) := by decide +kernel
theorem dX1_matches_20 : decode cX1_matches 20 = .ok (.getfield 25, 3) := by decide +kernel
theorem dX1_matches_23 : decode cX1_matches 23 = .ok (.iload_n 1, 1) := by decide +kernel
theorem dX1_matches_24 : decode cX1_matches 24 = .ok (.iaload, 1) := by decide +kernel
theorem dX1_matches_25 : decode cX1_matches 25 = .ok (.iconst 0, 1) := by decide +kernel
theorem dX1_matches_26 : decode cX1_matches 26 = .ok (.aload_n 0, 1) := by decide +kernel
theorem dX1_matches_27 : decode cX1_matches 27 = .ok (.getfield 53, 3) := by decide +kernel
theorem dX1_matches_30 : decode cX1_matches 30 = .ok (.invokevirtual 56, 3) := by decide +kernel
theorem dX1_matches_33 : decode cX1_matches 33 = .ok (.ifCond .eq 7, 3) := by decide +kernel
theorem dX1_matches_36 : decode cX1_matches 36 = .ok (.iconst 1, 1) := by decide +kernel
theorem dX1_matches_37 : decode cX1_matches 37 = .ok (.goto 4, 3) := by decide +kernel
theorem dX1_matches_40 : decode cX1_matches 40 = .ok (.iconst 0, 1) := by decide +kernel
theorem dX1_matches_41 : decode cX1_matches 41 = .ok (.ireturn, 1) := by decide +kernel
theorem dX1_count_0 : decode cX1_count 0 = .ok (.iload_n 1, 1) := by decide +kernel
theorem dX1_count_1 : decode cX1_count 1 = .ok (.ifCond .lt 20, 3) := by decide +kernel
theorem dX1_count_4 : decode cX1_count 4 = .ok (.iload_n 1, 1) := by decide +kernel
theorem dX1_count_5 : decode cX1_count 5 = .ok (.aload_n 0, 1) := by decide +kernel
theorem dX1_count_6 : decode cX1_count 6 = .ok (.getfield 50, 3) := by decide +kernel
theorem dX1_count_9 : decode cX1_count 9 = .ok (.if_icmp .ge 12, 3) := by decide +kernel
theorem dX1_count_12 : decode cX1_count 12 = .ok (.iload_n 2, 1) := by decide +kernel
theorem dX1_count_13 : decode cX1_count 13 = .ok (.ifCond .lt 8, 3) := by decide +kernel
theorem dX1_count_16 : decode cX1_count 16 = .ok (.iload_n 2, 1) := by decide +kernel
theorem dX1_count_17 : decode cX1_count 17 = .ok (.iconst 4, 1) := by decide +kernel
theorem dX1_count_18 : decode cX1_count 18 = .ok (.if_icmp .le 5, 3) := by decide +kernel
theorem dX1_count_21 : decode cX1_count 21 = .ok (.iconst (-1), 1) := by decide +kernel
theorem dX1_count_22 : decode cX1_count 22 = .ok (.ireturn, 1) := by decide +kernel
theorem dX1_count_23 : decode cX1_count 23 = .ok (.iconst 0, 1) := by decide +kernel
theorem dX1_count_24 : decode cX1_count 24 = .ok (.istore_n 3, 1) := by decide +kernel
theorem dX1_count_25 : decode cX1_count 25 = .ok (.iconst 1, 1) := by decide +kernel
theorem dX1_count_26 : decode cX1_count 26 = .ok (.iconst 2, 1) := by decide +kernel
theorem dX1_count_27 : decode cX1_count 27 = .ok (.iload_n 2, 1) := by decide +kernel
theorem dX1_count_28 : decode cX1_count 28 = .ok (.imul, 1) := by decide +kernel
theorem dX1_count_29 : decode cX1_count 29 = .ok (.ishl, 1) := by decide +kernel
theorem dX1_count_30 : decode cX1_count 30 = .ok (.istore 4, 2) := by decide +kernel
theorem dX1_count_32 : decode cX1_count 32 = .ok (.aload_n 0, 1) := by decide +kernel
theorem dX1_count_33 : decode cX1_count 33 = .ok (.iload_n 2, 1) := by decide +kernel
theorem dX1_count_34 : decode cX1_count 34 = .ok (.putfield 64, 3) := by decide +kernel
theorem dX1_count_37 : decode cX1_count 37 = .ok (.iconst 0, 1) := by decide +kernel
theorem dX1_count_38 : decode cX1_count 38 = .ok (.istore 5, 2) := by decide +kernel
theorem dX1_count_40 : decode cX1_count 40 = .ok (.iload 5, 2) := by decide +kernel
theorem dX1_count_42 : decode cX1_count 42 = .ok (.iload 4, 2) := by decide +kernel
theorem dX1_count_44 : decode cX1_count 44 = .ok (.if_icmp .ge 62, 3) := by decide +kernel
theorem dX1_count_47 : decode cX1_count 47 = .ok (.iconst 0, 1) := by decide +kernel
theorem dX1_count_48 : decode cX1_count 48 = .ok (.istore 6, 2) := by decide +kernel
theorem dX1_count_50 : decode cX1_count 50 = .ok (.iload 6, 2) := by decide +kernel
theorem dX1_count_52 : decode cX1_count 52 = .ok (.iload_n 2, 1) := by decide +kernel
theorem dX1_count_53 : decode cX1_count 53 = .ok (.if_icmp .ge 25, 3) := by decide +kernel
theorem dX1_count_56 : decode cX1_count 56 = .ok (.aload_n 0, 1) := by decide +kernel
theorem dX1_count_57 : decode cX1_count 57 = .ok (.getfield 31, 3) := by decide +kernel
theorem dX1_count_60 : decode cX1_count 60 = .ok (.iload 6, 2) := by decide +kernel
theorem dX1_count_62 : decode cX1_count 62 = .ok (.iload 5, 2) := by decide +kernel
theorem dX1_count_64 : decode cX1_count 64 = .ok (.iconst 2, 1) := by decide +kernel
theorem dX1_count_65 : decode cX1_count 65 = .ok (.iload 6, 2) := by decide +kernel
theorem dX1_count_67 : decode cX1_count 67 = .ok (.imul, 1) := by decide +kernel
theorem dX1_count_68 : decode cX1_count 68 = .ok (.ishr, 1) := by decide +kernel
theorem dX1_count_69 : decode cX1_count 69 = .ok (.iconst 3, 1) := by decide +kernel
theorem dX1_count_70 : decode cX1_count 70 = .ok (.iand, 1) := by decide +kernel
theorem dX1_count_71 : decode cX1_count 71 = .ok (.iastore, 1) := by decide +kernel
theorem dX1_count_72 : decode cX1_count 72 = .ok (.iinc 6 1, 3) := by decide +kernel
theorem dX1_count_75 : decode cX1_count 75 = .ok (.goto (-25), 3) := by decide +kernel
theorem dX1_count_78 : decode cX1_count 78 = .ok (.aload_n 0, 1) := by decide +kernel
theorem dX1_count_79 : decode cX1_count 79 = .ok (.invokevirtual 70, 3) := by decide +kernel
theorem dX1_count_82 : decode cX1_count 82 = .ok (.aload_n 0, 1) := by decide +kernel
theorem dX1_count_83 : decode cX1_count 83 = .ok (.aload_n 0, 1) := by decide +kernel
theorem dX1_count_84 : decode cX1_count 84 = .ok (.getfield 25, 3) := by decide +kernel
theorem dX1_count_87 : decode cX1_count 87 = .ok (.iload_n 1, 1) := by decide +kernel
theorem dX1_count_88 : decode cX1_count 88 = .ok (.iaload, 1) := by decide +kernel
theorem dX1_count_89 : decode cX1_count 89 = .ok (.iconst 0, 1) := by decide +kernel
theorem dX1_count_90 : decode cX1_count 90 = .ok (.iload_n 2, 1) := by decide +kernel
theorem dX1_count_91 : decode cX1_count 91 = .ok (.invokevirtual 56, 3) := by decide +kernel
theorem dX1_count_94 : decode cX1_count 94 = .ok (.ifCond .eq 6, 3) := by decide +kernel
theorem dX1_count_97 : decode cX1_count 97 = .ok (.iinc 3 1, 3) := by decide +kernel
theorem dX1_count_100 : decode cX1_count 100 = .ok (.iinc 5 1, 3) := by decide +kernel
theorem dX1_count_103 : decode cX1_count 103 = .ok (.goto (-63), 3) := by decide +kernel
theorem dX1_count_106 : decode cX1_count 106 = .ok (.iload_n 3, 1) := by decide +kernel
theorem dX1_count_107 : decode cX1_count 107 = .ok (.ireturn, 1) := by decide +kernel
theorem dX1_sortOf_0 : decode cX1_sortOf 0 = .ok (.iload_n 1, 1) := by decide +kernel
theorem dX1_sortOf_1 : decode cX1_sortOf 1 = .ok (.ifCond .lt 16, 3) := by decide +kernel
theorem dX1_sortOf_4 : decode cX1_sortOf 4 = .ok (.iload_n 2, 1) := by decide +kernel
theorem dX1_sortOf_5 : decode cX1_sortOf 5 = .ok (.iload_n 1, 1) := by decide +kernel
theorem dX1_sortOf_6 : decode cX1_sortOf 6 = .ok (.if_icmp .lt 11, 3) := by decide +kernel
theorem dX1_sortOf_9 : decode cX1_sortOf 9 = .ok (.iload_n 2, 1) := by decide +kernel
theorem dX1_sortOf_10 : decode cX1_sortOf 10 = .ok (.aload_n 0, 1) := by decide +kernel
theorem dX1_sortOf_11 : decode cX1_sortOf 11 = .ok (.getfield 53, 3) := by decide +kernel
theorem dX1_sortOf_14 : decode cX1_sortOf 14 = .ok (.if_icmp .le 6, 3) := by decide +kernel
theorem dX1_sortOf_17 : decode cX1_sortOf 17 = .ok (.bipush (-2), 2) := by decide +kernel
theorem dX1_sortOf_19 : decode cX1_sortOf 19 = .ok (.ireturn, 1) := by decide +kernel
theorem dX1_sortOf_20 : decode cX1_sortOf 20 = .ok (.aload_n 0, 1) := by decide +kernel
theorem dX1_sortOf_21 : decode cX1_sortOf 21 = .ok (.invokevirtual 77, 3) := by decide +kernel
theorem dX1_sortOf_24 : decode cX1_sortOf 24 = .ok (.aload_n 0, 1) := by decide +kernel
theorem dX1_sortOf_25 : decode cX1_sortOf 25 = .ok (.iload_n 1, 1) := by decide +kernel
theorem dX1_sortOf_26 : decode cX1_sortOf 26 = .ok (.iload_n 2, 1) := by decide +kernel
theorem dX1_sortOf_27 : decode cX1_sortOf 27 = .ok (.invokevirtual 73, 3) := by decide +kernel
theorem dX1_sortOf_30 : decode cX1_sortOf 30 = .ok (.ireturn, 1) := by decide +kernel
end
section
/-! the law's own entry -/
set_option maxRecDepth 100000
abbrev cL_law : ByteArray := code
theorem dL_law_0 : decode cL_law 0 = .ok (.new 7, 3) := by decide +kernel
theorem dL_law_3 : decode cL_law 3 = .ok (.dup, 1) := by decide +kernel
theorem dL_law_4 : decode cL_law 4 = .ok (.invokespecial 9, 3) := by decide +kernel
theorem dL_law_7 : decode cL_law 7 = .ok (.astore_n 1, 1) := by decide +kernel
theorem dL_law_8 : decode cL_law 8 = .ok (.new 10, 3) := by decide +kernel
theorem dL_law_11 : decode cL_law 11 = .ok (.dup, 1) := by decide +kernel
theorem dL_law_12 : decode cL_law 12 = .ok (.invokespecial 12, 3) := by decide +kernel
theorem dL_law_15 : decode cL_law 15 = .ok (.astore_n 2, 1) := by decide +kernel
theorem dL_law_16 : decode cL_law 16 = .ok (.iconst 0, 1) := by decide +kernel
theorem dL_law_17 : decode cL_law 17 = .ok (.istore_n 3, 1) := by decide +kernel
theorem dL_law_18 : decode cL_law 18 = .ok (.iload_n 3, 1) := by decide +kernel
theorem dL_law_19 : decode cL_law 19 = .ok (.aload_n 0, 1) := by decide +kernel
theorem dL_law_20 : decode cL_law 20 = .ok (.arraylength, 1) := by decide +kernel
theorem dL_law_21 : decode cL_law 21 = .ok (.iconst 3, 1) := by decide +kernel
theorem dL_law_22 : decode cL_law 22 = .ok (.isub, 1) := by decide +kernel
theorem dL_law_23 : decode cL_law 23 = .ok (.if_icmp .gt 297, 3) := by decide +kernel
theorem dL_law_26 : decode cL_law 26 = .ok (.aload_n 0, 1) := by decide +kernel
theorem dL_law_27 : decode cL_law 27 = .ok (.iload_n 3, 1) := by decide +kernel
theorem dL_law_28 : decode cL_law 28 = .ok (.iaload, 1) := by decide +kernel
theorem dL_law_29 : decode cL_law 29 = .ok (.bipush 15, 2) := by decide +kernel
theorem dL_law_31 : decode cL_law 31 = .ok (.iand, 1) := by decide +kernel
theorem dL_law_32 : decode cL_law 32 = .ok (.tableswitch 282 0 9 #[56, 89, 100, 123, 134, 147, 170, 193, 216, 249], 56) := by decide +kernel
theorem dL_law_88 : decode cL_law 88 = .ok (.aload_n 1, 1) := by decide +kernel
theorem dL_law_89 : decode cL_law 89 = .ok (.aload_n 0, 1) := by decide +kernel
theorem dL_law_90 : decode cL_law 90 = .ok (.iload_n 3, 1) := by decide +kernel
theorem dL_law_91 : decode cL_law 91 = .ok (.iconst 1, 1) := by decide +kernel
theorem dL_law_92 : decode cL_law 92 = .ok (.iadd, 1) := by decide +kernel
theorem dL_law_93 : decode cL_law 93 = .ok (.iaload, 1) := by decide +kernel
theorem dL_law_94 : decode cL_law 94 = .ok (.aload_n 0, 1) := by decide +kernel
theorem dL_law_95 : decode cL_law 95 = .ok (.iload_n 3, 1) := by decide +kernel
theorem dL_law_96 : decode cL_law 96 = .ok (.iconst 2, 1) := by decide +kernel
theorem dL_law_97 : decode cL_law 97 = .ok (.iadd, 1) := by decide +kernel
theorem dL_law_98 : decode cL_law 98 = .ok (.iaload, 1) := by decide +kernel
theorem dL_law_99 : decode cL_law 99 = .ok (.invokevirtual 13, 3) := by decide +kernel
theorem dL_law_102 : decode cL_law 102 = .ok (.aload_n 2, 1) := by decide +kernel
theorem dL_law_103 : decode cL_law 103 = .ok (.aload_n 0, 1) := by decide +kernel
theorem dL_law_104 : decode cL_law 104 = .ok (.iload_n 3, 1) := by decide +kernel
theorem dL_law_105 : decode cL_law 105 = .ok (.iconst 1, 1) := by decide +kernel
theorem dL_law_106 : decode cL_law 106 = .ok (.iadd, 1) := by decide +kernel
theorem dL_law_107 : decode cL_law 107 = .ok (.iaload, 1) := by decide +kernel
theorem dL_law_108 : decode cL_law 108 = .ok (.aload_n 0, 1) := by decide +kernel
theorem dL_law_109 : decode cL_law 109 = .ok (.iload_n 3, 1) := by decide +kernel
theorem dL_law_110 : decode cL_law 110 = .ok (.iconst 2, 1) := by decide +kernel
theorem dL_law_111 : decode cL_law 111 = .ok (.iadd, 1) := by decide +kernel
theorem dL_law_112 : decode cL_law 112 = .ok (.iaload, 1) := by decide +kernel
theorem dL_law_113 : decode cL_law 113 = .ok (.invokevirtual 17, 3) := by decide +kernel
theorem dL_law_116 : decode cL_law 116 = .ok (.if_icmp .eq 198, 3) := by decide +kernel
theorem dL_law_119 : decode cL_law 119 = .ok (.iconst 0, 1) := by decide +kernel
theorem dL_law_120 : decode cL_law 120 = .ok (.ireturn, 1) := by decide +kernel
theorem dL_law_121 : decode cL_law 121 = .ok (.aload_n 1, 1) := by decide +kernel
theorem dL_law_122 : decode cL_law 122 = .ok (.invokevirtual 18, 3) := by decide +kernel
theorem dL_law_125 : decode cL_law 125 = .ok (.aload_n 2, 1) := by decide +kernel
theorem dL_law_126 : decode cL_law 126 = .ok (.invokevirtual 21, 3) := by decide +kernel
theorem dL_law_129 : decode cL_law 129 = .ok (.goto 185, 3) := by decide +kernel
theorem dL_law_132 : decode cL_law 132 = .ok (.aload_n 1, 1) := by decide +kernel
theorem dL_law_133 : decode cL_law 133 = .ok (.aload_n 0, 1) := by decide +kernel
theorem dL_law_134 : decode cL_law 134 = .ok (.iload_n 3, 1) := by decide +kernel
theorem dL_law_135 : decode cL_law 135 = .ok (.iconst 1, 1) := by decide +kernel
theorem dL_law_136 : decode cL_law 136 = .ok (.iadd, 1) := by decide +kernel
theorem dL_law_137 : decode cL_law 137 = .ok (.iaload, 1) := by decide +kernel
theorem dL_law_138 : decode cL_law 138 = .ok (.invokevirtual 22, 3) := by decide +kernel
theorem dL_law_141 : decode cL_law 141 = .ok (.aload_n 2, 1) := by decide +kernel
theorem dL_law_142 : decode cL_law 142 = .ok (.aload_n 0, 1) := by decide +kernel
theorem dL_law_143 : decode cL_law 143 = .ok (.iload_n 3, 1) := by decide +kernel
theorem dL_law_144 : decode cL_law 144 = .ok (.iconst 1, 1) := by decide +kernel
theorem dL_law_145 : decode cL_law 145 = .ok (.iadd, 1) := by decide +kernel
theorem dL_law_146 : decode cL_law 146 = .ok (.iaload, 1) := by decide +kernel
theorem dL_law_147 : decode cL_law 147 = .ok (.invokevirtual 26, 3) := by decide +kernel
theorem dL_law_150 : decode cL_law 150 = .ok (.if_icmp .eq 164, 3) := by decide +kernel
theorem dL_law_153 : decode cL_law 153 = .ok (.iconst 0, 1) := by decide +kernel
theorem dL_law_154 : decode cL_law 154 = .ok (.ireturn, 1) := by decide +kernel
theorem dL_law_155 : decode cL_law 155 = .ok (.aload_n 1, 1) := by decide +kernel
theorem dL_law_156 : decode cL_law 156 = .ok (.invokevirtual 27, 3) := by decide +kernel
theorem dL_law_159 : decode cL_law 159 = .ok (.aload_n 2, 1) := by decide +kernel
theorem dL_law_160 : decode cL_law 160 = .ok (.invokevirtual 30, 3) := by decide +kernel
theorem dL_law_163 : decode cL_law 163 = .ok (.goto 151, 3) := by decide +kernel
theorem dL_law_166 : decode cL_law 166 = .ok (.aload_n 1, 1) := by decide +kernel
theorem dL_law_167 : decode cL_law 167 = .ok (.invokevirtual 31, 3) := by decide +kernel
theorem dL_law_170 : decode cL_law 170 = .ok (.aload_n 2, 1) := by decide +kernel
theorem dL_law_171 : decode cL_law 171 = .ok (.invokevirtual 35, 3) := by decide +kernel
theorem dL_law_174 : decode cL_law 174 = .ok (.if_icmp .eq 140, 3) := by decide +kernel
theorem dL_law_177 : decode cL_law 177 = .ok (.iconst 0, 1) := by decide +kernel
theorem dL_law_178 : decode cL_law 178 = .ok (.ireturn, 1) := by decide +kernel
theorem dL_law_179 : decode cL_law 179 = .ok (.aload_n 1, 1) := by decide +kernel
theorem dL_law_180 : decode cL_law 180 = .ok (.aload_n 0, 1) := by decide +kernel
theorem dL_law_181 : decode cL_law 181 = .ok (.iload_n 3, 1) := by decide +kernel
theorem dL_law_182 : decode cL_law 182 = .ok (.iconst 1, 1) := by decide +kernel
theorem dL_law_183 : decode cL_law 183 = .ok (.iadd, 1) := by decide +kernel
theorem dL_law_184 : decode cL_law 184 = .ok (.iaload, 1) := by decide +kernel
theorem dL_law_185 : decode cL_law 185 = .ok (.invokevirtual 36, 3) := by decide +kernel
theorem dL_law_188 : decode cL_law 188 = .ok (.aload_n 2, 1) := by decide +kernel
theorem dL_law_189 : decode cL_law 189 = .ok (.aload_n 0, 1) := by decide +kernel
theorem dL_law_190 : decode cL_law 190 = .ok (.iload_n 3, 1) := by decide +kernel
theorem dL_law_191 : decode cL_law 191 = .ok (.iconst 1, 1) := by decide +kernel
theorem dL_law_192 : decode cL_law 192 = .ok (.iadd, 1) := by decide +kernel
theorem dL_law_193 : decode cL_law 193 = .ok (.iaload, 1) := by decide +kernel
theorem dL_law_194 : decode cL_law 194 = .ok (.invokevirtual 39, 3) := by decide +kernel
theorem dL_law_197 : decode cL_law 197 = .ok (.if_icmp .eq 117, 3) := by decide +kernel
theorem dL_law_200 : decode cL_law 200 = .ok (.iconst 0, 1) := by decide +kernel
theorem dL_law_201 : decode cL_law 201 = .ok (.ireturn, 1) := by decide +kernel
theorem dL_law_202 : decode cL_law 202 = .ok (.aload_n 1, 1) := by decide +kernel
theorem dL_law_203 : decode cL_law 203 = .ok (.aload_n 0, 1) := by decide +kernel
theorem dL_law_204 : decode cL_law 204 = .ok (.iload_n 3, 1) := by decide +kernel
theorem dL_law_205 : decode cL_law 205 = .ok (.iconst 1, 1) := by decide +kernel
theorem dL_law_206 : decode cL_law 206 = .ok (.iadd, 1) := by decide +kernel
theorem dL_law_207 : decode cL_law 207 = .ok (.iaload, 1) := by decide +kernel
theorem dL_law_208 : decode cL_law 208 = .ok (.invokevirtual 40, 3) := by decide +kernel
theorem dL_law_211 : decode cL_law 211 = .ok (.aload_n 2, 1) := by decide +kernel
theorem dL_law_212 : decode cL_law 212 = .ok (.aload_n 0, 1) := by decide +kernel
theorem dL_law_213 : decode cL_law 213 = .ok (.iload_n 3, 1) := by decide +kernel
theorem dL_law_214 : decode cL_law 214 = .ok (.iconst 1, 1) := by decide +kernel
theorem dL_law_215 : decode cL_law 215 = .ok (.iadd, 1) := by decide +kernel
theorem dL_law_216 : decode cL_law 216 = .ok (.iaload, 1) := by decide +kernel
theorem dL_law_217 : decode cL_law 217 = .ok (.invokevirtual 43, 3) := by decide +kernel
theorem dL_law_220 : decode cL_law 220 = .ok (.if_icmp .eq 94, 3) := by decide +kernel
theorem dL_law_223 : decode cL_law 223 = .ok (.iconst 0, 1) := by decide +kernel
theorem dL_law_224 : decode cL_law 224 = .ok (.ireturn, 1) := by decide +kernel
theorem dL_law_225 : decode cL_law 225 = .ok (.aload_n 1, 1) := by decide +kernel
theorem dL_law_226 : decode cL_law 226 = .ok (.aload_n 0, 1) := by decide +kernel
theorem dL_law_227 : decode cL_law 227 = .ok (.iload_n 3, 1) := by decide +kernel
theorem dL_law_228 : decode cL_law 228 = .ok (.iconst 1, 1) := by decide +kernel
theorem dL_law_229 : decode cL_law 229 = .ok (.iadd, 1) := by decide +kernel
theorem dL_law_230 : decode cL_law 230 = .ok (.iaload, 1) := by decide +kernel
theorem dL_law_231 : decode cL_law 231 = .ok (.invokevirtual 44, 3) := by decide +kernel
theorem dL_law_234 : decode cL_law 234 = .ok (.aload_n 2, 1) := by decide +kernel
theorem dL_law_235 : decode cL_law 235 = .ok (.aload_n 0, 1) := by decide +kernel
theorem dL_law_236 : decode cL_law 236 = .ok (.iload_n 3, 1) := by decide +kernel
theorem dL_law_237 : decode cL_law 237 = .ok (.iconst 1, 1) := by decide +kernel
theorem dL_law_238 : decode cL_law 238 = .ok (.iadd, 1) := by decide +kernel
theorem dL_law_239 : decode cL_law 239 = .ok (.iaload, 1) := by decide +kernel
theorem dL_law_240 : decode cL_law 240 = .ok (.invokevirtual 47, 3) := by decide +kernel
theorem dL_law_243 : decode cL_law 243 = .ok (.if_icmp .eq 71, 3) := by decide +kernel
theorem dL_law_246 : decode cL_law 246 = .ok (.iconst 0, 1) := by decide +kernel
theorem dL_law_247 : decode cL_law 247 = .ok (.ireturn, 1) := by decide +kernel
theorem dL_law_248 : decode cL_law 248 = .ok (.aload_n 1, 1) := by decide +kernel
theorem dL_law_249 : decode cL_law 249 = .ok (.aload_n 0, 1) := by decide +kernel
theorem dL_law_250 : decode cL_law 250 = .ok (.iload_n 3, 1) := by decide +kernel
theorem dL_law_251 : decode cL_law 251 = .ok (.iconst 1, 1) := by decide +kernel
theorem dL_law_252 : decode cL_law 252 = .ok (.iadd, 1) := by decide +kernel
theorem dL_law_253 : decode cL_law 253 = .ok (.iaload, 1) := by decide +kernel
theorem dL_law_254 : decode cL_law 254 = .ok (.aload_n 0, 1) := by decide +kernel
theorem dL_law_255 : decode cL_law 255 = .ok (.iload_n 3, 1) := by decide +kernel
theorem dL_law_256 : decode cL_law 256 = .ok (.iconst 2, 1) := by decide +kernel
theorem dL_law_257 : decode cL_law 257 = .ok (.iadd, 1) := by decide +kernel
theorem dL_law_258 : decode cL_law 258 = .ok (.iaload, 1) := by decide +kernel
theorem dL_law_259 : decode cL_law 259 = .ok (.invokevirtual 48, 3) := by decide +kernel
theorem dL_law_262 : decode cL_law 262 = .ok (.aload_n 2, 1) := by decide +kernel
theorem dL_law_263 : decode cL_law 263 = .ok (.aload_n 0, 1) := by decide +kernel
theorem dL_law_264 : decode cL_law 264 = .ok (.iload_n 3, 1) := by decide +kernel
theorem dL_law_265 : decode cL_law 265 = .ok (.iconst 1, 1) := by decide +kernel
theorem dL_law_266 : decode cL_law 266 = .ok (.iadd, 1) := by decide +kernel
theorem dL_law_267 : decode cL_law 267 = .ok (.iaload, 1) := by decide +kernel
theorem dL_law_268 : decode cL_law 268 = .ok (.aload_n 0, 1) := by decide +kernel
theorem dL_law_269 : decode cL_law 269 = .ok (.iload_n 3, 1) := by decide +kernel
theorem dL_law_270 : decode cL_law 270 = .ok (.iconst 2, 1) := by decide +kernel
theorem dL_law_271 : decode cL_law 271 = .ok (.iadd, 1) := by decide +kernel
theorem dL_law_272 : decode cL_law 272 = .ok (.iaload, 1) := by decide +kernel
theorem dL_law_273 : decode cL_law 273 = .ok (.invokevirtual 51, 3) := by decide +kernel
theorem dL_law_276 : decode cL_law 276 = .ok (.if_icmp .eq 38, 3) := by decide +kernel
theorem dL_law_279 : decode cL_law 279 = .ok (.iconst 0, 1) := by decide +kernel
theorem dL_law_280 : decode cL_law 280 = .ok (.ireturn, 1) := by decide +kernel
theorem dL_law_281 : decode cL_law 281 = .ok (.aload_n 1, 1) := by decide +kernel
theorem dL_law_282 : decode cL_law 282 = .ok (.aload_n 0, 1) := by decide +kernel
theorem dL_law_283 : decode cL_law 283 = .ok (.iload_n 3, 1) := by decide +kernel
theorem dL_law_284 : decode cL_law 284 = .ok (.iconst 1, 1) := by decide +kernel
theorem dL_law_285 : decode cL_law 285 = .ok (.iadd, 1) := by decide +kernel
theorem dL_law_286 : decode cL_law 286 = .ok (.iaload, 1) := by decide +kernel
theorem dL_law_287 : decode cL_law 287 = .ok (.aload_n 0, 1) := by decide +kernel
theorem dL_law_288 : decode cL_law 288 = .ok (.iload_n 3, 1) := by decide +kernel
theorem dL_law_289 : decode cL_law 289 = .ok (.iconst 2, 1) := by decide +kernel
theorem dL_law_290 : decode cL_law 290 = .ok (.iadd, 1) := by decide +kernel
theorem dL_law_291 : decode cL_law 291 = .ok (.iaload, 1) := by decide +kernel
theorem dL_law_292 : decode cL_law 292 = .ok (.invokevirtual 52, 3) := by decide +kernel
theorem dL_law_295 : decode cL_law 295 = .ok (.aload_n 2, 1) := by decide +kernel
theorem dL_law_296 : decode cL_law 296 = .ok (.aload_n 0, 1) := by decide +kernel
theorem dL_law_297 : decode cL_law 297 = .ok (.iload_n 3, 1) := by decide +kernel
theorem dL_law_298 : decode cL_law 298 = .ok (.iconst 1, 1) := by decide +kernel
theorem dL_law_299 : decode cL_law 299 = .ok (.iadd, 1) := by decide +kernel
theorem dL_law_300 : decode cL_law 300 = .ok (.iaload, 1) := by decide +kernel
theorem dL_law_301 : decode cL_law 301 = .ok (.aload_n 0, 1) := by decide +kernel
theorem dL_law_302 : decode cL_law 302 = .ok (.iload_n 3, 1) := by decide +kernel
theorem dL_law_303 : decode cL_law 303 = .ok (.iconst 2, 1) := by decide +kernel
theorem dL_law_304 : decode cL_law 304 = .ok (.iadd, 1) := by decide +kernel
theorem dL_law_305 : decode cL_law 305 = .ok (.iaload, 1) := by decide +kernel
theorem dL_law_306 : decode cL_law 306 = .ok (.invokevirtual 55, 3) := by decide +kernel
theorem dL_law_309 : decode cL_law 309 = .ok (.if_icmp .eq 5, 3) := by decide +kernel
theorem dL_law_312 : decode cL_law 312 = .ok (.iconst 0, 1) := by decide +kernel
theorem dL_law_313 : decode cL_law 313 = .ok (.ireturn, 1) := by decide +kernel
theorem dL_law_314 : decode cL_law 314 = .ok (.iinc 3 3, 3) := by decide +kernel
theorem dL_law_317 : decode cL_law 317 = .ok (.goto (-299), 3) := by decide +kernel
theorem dL_law_320 : decode cL_law 320 = .ok (.iconst 1, 1) := by decide +kernel
theorem dL_law_321 : decode cL_law 321 = .ok (.ireturn, 1) := by decide +kernel
end
section
set_option maxRecDepth 100000
section VJ
/-- all that stays during a method: program, launch, env, room, start, method, args, frames below, method's row, code, cells, slots, goal, the writable addresses, class numbers, locals -/
abbrev VX : Type := Program × Launch × Env × Room × State × MethodId × Array Value × List Frame × Method × Code × Nat × Nat × (State → Prop) × (Nat → Prop) × va_G × Nat
abbrev VX.p (X : VX) : Program := X.1
abbrev VX.l (X : VX) : Launch := X.2.1
abbrev VX.e (X : VX) : Env := X.2.2.1
abbrev VX.R (X : VX) : Room := X.2.2.2.1
abbrev VX.s (X : VX) : State := X.2.2.2.2.1
abbrev VX.m (X : VX) : MethodId := X.2.2.2.2.2.1
abbrev VX.ar (X : VX) : Array Value := X.2.2.2.2.2.2.1
abbrev VX.bl (X : VX) : List Frame := X.2.2.2.2.2.2.2.1
abbrev VX.mt (X : VX) : Method := X.2.2.2.2.2.2.2.2.1
abbrev VX.c (X : VX) : Code := X.2.2.2.2.2.2.2.2.2.1
abbrev VX.k (X : VX) : Nat := X.2.2.2.2.2.2.2.2.2.2.1
abbrev VX.n (X : VX) : Nat := X.2.2.2.2.2.2.2.2.2.2.2.1
abbrev VX.Q (X : VX) : State → Prop := X.2.2.2.2.2.2.2.2.2.2.2.2.1
abbrev VX.A (X : VX) : Nat → Prop := X.2.2.2.2.2.2.2.2.2.2.2.2.2.1
abbrev VX.D (X : VX) : va_G := X.2.2.2.2.2.2.2.2.2.2.2.2.2.2.1
abbrev VX.L (X : VX) : Nat := X.2.2.2.2.2.2.2.2.2.2.2.2.2.2.2
/-- for every heap that holds the world ws, with locals lv: from pc with the stack st the machine comes to the goal -/
def vV (X : VX) (ws : va_W) (pc : Nat) (lv : List (Nat × Value)) (st : List Value) : Prop :=
  ∀ (H : Heap) (locs : List Loc), va_P X.D vwCl ws H → va_D X.A ws → va_S X.A X.s.heap H locs → ∀ ls : Array Slot, lv_has ls X.L lv → W X.p X.l X.e X.R X.s X.m X.ar X.bl X.mt X.c H locs X.k X.n X.Q (F0 X.m pc ls st)
/-- the cells of a module, and what is made from sz on -/
def vA (ad : Nat → Nat) (n sz : Nat) : Nat → Prop := fun q => (∃ k, k < n ∧ q = ad k) ∨ sz ≤ q
abbrev vRm (d : Nat) : Room := { frames := d, cells := 0, slots := 0, locals := 32 * d }
abbrev vTy (ci cj cz : ClassId) : List (ClassId × FieldType) := [(ci, .int), (cj, .long), (cz, .boolean)]
/-- what is known during a method -/
def vC (X : VX) (cc : ByteArray) (own : String) (nL : Nat) (tys : List (ClassId × FieldType)) (R0 : Room) (ad : Nat → Nat) (n : Nat) : Prop :=
  X.p.tables.exec = Jvm.exec ∧ X.c.code = cc ∧ X.c.maxLocals = X.L ∧ X.L = nL ∧ X.s.vm.findClass own = some X.m.cls ∧ (∀ w ∈ lw_all, w.before X.ar X.s = true) ∧ va_K X.D vwCl tys X.s ∧ X.mt.locks = false ∧ (X.k ≤ X.R.cells ∧ X.n ≤ X.R.slots) ∧ X.R = R0 ∧ ∀ q sz, X.s.heap.size ≤ sz → vA ad n sz q → X.A q
variable {X : VX} {cc : ByteArray} {own : String} {nL : Nat} {tys : List (ClassId × FieldType)} {R0 : Room} {ad : Nat → Nat} {nA : Nat}
theorem vC.hx (C : vC X cc own nL tys R0 ad nA) : X.p.tables.exec = Jvm.exec := C.1
theorem vC.hb (C : vC X cc own nL tys R0 ad nA) : X.c.code = cc := C.2.1
theorem vC.hm (C : vC X cc own nL tys R0 ad nA) : X.c.maxLocals = X.L := C.2.2.1
theorem vC.hL (C : vC X cc own nL tys R0 ad nA) : X.L = nL := C.2.2.2.1
theorem vC.ho (C : vC X cc own nL tys R0 ad nA) : X.s.vm.findClass own = some X.m.cls := C.2.2.2.2.1
theorem vC.ht (C : vC X cc own nL tys R0 ad nA) : ∀ w ∈ lw_all, w.before X.ar X.s = true := C.2.2.2.2.2.1
theorem vC.hK (C : vC X cc own nL tys R0 ad nA) : va_K X.D vwCl tys X.s := C.2.2.2.2.2.2.1
theorem vC.hlk (C : vC X cc own nL tys R0 ad nA) : X.mt.locks = false := C.2.2.2.2.2.2.2.1
theorem vC.hkn (C : vC X cc own nL tys R0 ad nA) : X.k ≤ X.R.cells ∧ X.n ≤ X.R.slots := C.2.2.2.2.2.2.2.2.1
theorem vC.hR (C : vC X cc own nL tys R0 ad nA) : X.R = R0 := C.2.2.2.2.2.2.2.2.2.1
theorem vC.hA (C : vC X cc own nL tys R0 ad nA) : ∀ q sz, X.s.heap.size ≤ sz → vA ad nA sz q → X.A q := C.2.2.2.2.2.2.2.2.2.2
variable {ws ws' : va_W} {pc : Nat} {lv lv' : List (Nat × Value)} {st : List Value}
theorem v_lv (h : lv = lv') (K : vV X ws pc lv' st) : vV X ws pc lv st := h ▸ K
theorem v_sub (ks : List Nat) (h : lv_pick lv ks = lv') (K : vV X ws pc lv' st) : vV X ws pc lv st := fun H locs hP hD hS ls hl => K H locs hP hD hS ls (lv_sub hl ks h)
theorem v_ws (h : ws = ws') (K : vV X ws' pc lv st) : vV X ws pc lv st := h ▸ K
theorem v_st {st' : List Value} (h : st = st') (K : vV X ws pc lv st') : vV X ws pc lv st := h ▸ K
theorem v_iconst (C : vC X cc own nL tys R0 ad nA) {n : Int} {v : Int32} (d : decode cc pc = .ok (.iconst n, 1)) (hv : Int32.ofInt n = v) (K : vV X ws (pc + 1) lv (.int v :: st)) : vV X ws pc lv (st) := fun H locs hP hD hS ls hl => lv_iconst C.hx C.hb d hv (K H locs hP hD hS ls hl)
theorem v_bipush (C : vC X cc own nL tys R0 ad nA) {n : Int} {v : Int32} (d : decode cc pc = .ok (.bipush n, 2)) (hv : (Int8.ofInt n).toInt32 = v) (K : vV X ws (pc + 2) lv (.int v :: st)) : vV X ws pc lv (st) := fun H locs hP hD hS ls hl => lv_bipush C.hx C.hb d hv (K H locs hP hD hS ls hl)
theorem v_sipush (C : vC X cc own nL tys R0 ad nA) {n : Int} {v : Int32} (d : decode cc pc = .ok (.sipush n, 3)) (hv : (Int16.ofInt n).toInt32 = v) (K : vV X ws (pc + 3) lv (.int v :: st)) : vV X ws pc lv (st) := fun H locs hP hD hS ls hl => lv_sipush C.hx C.hb d hv (K H locs hP hD hS ls hl)
theorem v_lconst (C : vC X cc own nL tys R0 ad nA) {n : Fin 2} {v : Int64} (d : decode cc pc = .ok (.lconst n, 1)) (hv : Int64.ofNat (n : Nat) = v) (K : vV X ws (pc + 1) lv (.long v :: st)) : vV X ws pc lv (st) := fun H locs hP hD hS ls hl => lv_lconst C.hx C.hb d hv (K H locs hP hD hS ls hl)
theorem v_iload_n (C : vC X cc own nL tys R0 ad nA) {k : Fin 4} {i : Nat} {x : Int32} (d : decode cc pc = .ok (.iload_n k, 1)) (hi : (k : Nat) = i) (j : Nat) (hj : lv[j]? = some (i, .int x)) (K : vV X ws (pc + 1) lv (.int x :: st)) : vV X ws pc lv (st) := fun H locs hP hD hS ls hl => lv_iload_n C.hx C.hb d hi (lv_at hl j hj) (K H locs hP hD hS ls hl)
theorem v_iload (C : vC X cc own nL tys R0 ad nA) {i : Nat} {x : Int32} (d : decode cc pc = .ok (.iload i, 2)) (j : Nat) (hj : lv[j]? = some (i, .int x)) (K : vV X ws (pc + 2) lv (.int x :: st)) : vV X ws pc lv (st) := fun H locs hP hD hS ls hl => lv_iload C.hx C.hb d (lv_at hl j hj) (K H locs hP hD hS ls hl)
theorem v_lload_n (C : vC X cc own nL tys R0 ad nA) {k : Fin 4} {i : Nat} {x : Int64} (d : decode cc pc = .ok (.lload_n k, 1)) (hi : (k : Nat) = i) (j : Nat) (hj : lv[j]? = some (i, .long x)) (K : vV X ws (pc + 1) lv (.long x :: st)) : vV X ws pc lv (st) := fun H locs hP hD hS ls hl => lv_lload_n C.hx C.hb d hi (lv_at hl j hj) (K H locs hP hD hS ls hl)
theorem v_lload (C : vC X cc own nL tys R0 ad nA) {i : Nat} {x : Int64} (d : decode cc pc = .ok (.lload i, 2)) (j : Nat) (hj : lv[j]? = some (i, .long x)) (K : vV X ws (pc + 2) lv (.long x :: st)) : vV X ws pc lv (st) := fun H locs hP hD hS ls hl => lv_lload C.hx C.hb d (lv_at hl j hj) (K H locs hP hD hS ls hl)
theorem v_aload_n (C : vC X cc own nL tys R0 ad nA) {k : Fin 4} {i : Nat} {x : Nat} (d : decode cc pc = .ok (.aload_n k, 1)) (hi : (k : Nat) = i) (j : Nat) (hj : lv[j]? = some (i, .ref x)) (K : vV X ws (pc + 1) lv (.ref x :: st)) : vV X ws pc lv (st) := fun H locs hP hD hS ls hl => lv_aload_n C.hx C.hb d hi (lv_at hl j hj) (K H locs hP hD hS ls hl)
theorem v_aload (C : vC X cc own nL tys R0 ad nA) {i : Nat} {x : Nat} (d : decode cc pc = .ok (.aload i, 2)) (j : Nat) (hj : lv[j]? = some (i, .ref x)) (K : vV X ws (pc + 2) lv (.ref x :: st)) : vV X ws pc lv (st) := fun H locs hP hD hS ls hl => lv_aload C.hx C.hb d (lv_at hl j hj) (K H locs hP hD hS ls hl)
theorem v_istore_n (C : vC X cc own nL tys R0 ad nA) {k : Fin 4} {i : Nat} {x : Int32} (d : decode cc pc = .ok (.istore_n k, 1)) (hi : (k : Nat) = i) (hn : i < nL) (hf : (i, Value.int x) :: lv.filter (fun q => !(q.1 == i) && !(q.1 + 1 == i && q.2.category == 2)) = lv') (K : vV X ws (pc + 1) lv' st) : vV X ws pc lv (.int x :: st) := fun H locs hP hD hS ls hl => lv_istore_n C.hx C.hb d hi hl (by rw [C.hL]; exact hn) hf (fun ls hl => K H locs hP hD hS ls hl)
theorem v_istore (C : vC X cc own nL tys R0 ad nA) {i : Nat} {x : Int32} (d : decode cc pc = .ok (.istore i, 2)) (hn : i < nL) (hf : (i, Value.int x) :: lv.filter (fun q => !(q.1 == i) && !(q.1 + 1 == i && q.2.category == 2)) = lv') (K : vV X ws (pc + 2) lv' st) : vV X ws pc lv (.int x :: st) := fun H locs hP hD hS ls hl => lv_istore C.hx C.hb d hl (by rw [C.hL]; exact hn) hf (fun ls hl => K H locs hP hD hS ls hl)
theorem v_lstore_n (C : vC X cc own nL tys R0 ad nA) {k : Fin 4} {i : Nat} {x : Int64} (d : decode cc pc = .ok (.lstore_n k, 1)) (hi : (k : Nat) = i) (hn : i + 1 < nL) (hf : (i, Value.long x) :: lv.filter (fun q => !(q.1 == i) && (!(q.1 == i + 1) && !(q.1 + 1 == i && q.2.category == 2))) = lv') (K : vV X ws (pc + 1) lv' st) : vV X ws pc lv (.long x :: st) := fun H locs hP hD hS ls hl => lv_lstore_n C.hx C.hb d hi hl (by rw [C.hL]; exact hn) hf (fun ls hl => K H locs hP hD hS ls hl)
theorem v_lstore (C : vC X cc own nL tys R0 ad nA) {i : Nat} {x : Int64} (d : decode cc pc = .ok (.lstore i, 2)) (hn : i + 1 < nL) (hf : (i, Value.long x) :: lv.filter (fun q => !(q.1 == i) && (!(q.1 == i + 1) && !(q.1 + 1 == i && q.2.category == 2))) = lv') (K : vV X ws (pc + 2) lv' st) : vV X ws pc lv (.long x :: st) := fun H locs hP hD hS ls hl => lv_lstore C.hx C.hb d hl (by rw [C.hL]; exact hn) hf (fun ls hl => K H locs hP hD hS ls hl)
theorem v_iinc (C : vC X cc own nL tys R0 ad nA) {i : Nat} {n : Int} {x v : Int32} (d : decode cc pc = .ok (.iinc i n, 3)) (j : Nat) (hj : lv[j]? = some (i, .int x)) (hv : x + Int32.ofInt n = v) (hn : i < nL) (hf : (i, Value.int v) :: lv.filter (fun q => !(q.1 == i) && !(q.1 + 1 == i && q.2.category == 2)) = lv') (K : vV X ws (pc + 3) lv' st) : vV X ws pc lv st := fun H locs hP hD hS ls hl => lv_iinc C.hx C.hb d hl hj hv (by rw [C.hL]; exact hn) hf (fun ls hl => K H locs hP hD hS ls hl)
theorem v_one : Int32.ofInt 1 = 1 := by decide
theorem v_inc (a : Nat) : nI a + Int32.ofInt 1 = nI (a + 1) := by rw [v_one]; exact nI_1 a
theorem v_dec (a : Nat) : nI a + Int32.ofInt (-1) = nI a - 1 := by rw [Int32.sub_eq_add_neg]; rfl
theorem v_iadd (C : vC X cc own nL tys R0 ad nA) {x y : Int32} (d : decode cc pc = .ok (.iadd, 1))  (K : vV X ws (pc + 1) lv (.int (x + y) :: st)) : vV X ws pc lv (.int y :: .int x :: st) := fun H locs hP hD hS ls hl => lv_iadd C.hx C.hb d (K H locs hP hD hS ls hl)
theorem v_isub (C : vC X cc own nL tys R0 ad nA) {x y : Int32} (d : decode cc pc = .ok (.isub, 1))  (K : vV X ws (pc + 1) lv (.int (x - y) :: st)) : vV X ws pc lv (.int y :: .int x :: st) := fun H locs hP hD hS ls hl => lv_isub C.hx C.hb d (K H locs hP hD hS ls hl)
theorem v_imul (C : vC X cc own nL tys R0 ad nA) {x y : Int32} (d : decode cc pc = .ok (.imul, 1))  (K : vV X ws (pc + 1) lv (.int (x * y) :: st)) : vV X ws pc lv (.int y :: .int x :: st) := fun H locs hP hD hS ls hl => lv_imul C.hx C.hb d (K H locs hP hD hS ls hl)
theorem v_iand (C : vC X cc own nL tys R0 ad nA) {x y : Int32} (d : decode cc pc = .ok (.iand, 1))  (K : vV X ws (pc + 1) lv (.int (x &&& y) :: st)) : vV X ws pc lv (.int y :: .int x :: st) := fun H locs hP hD hS ls hl => lv_iand C.hx C.hb d (K H locs hP hD hS ls hl)
theorem v_ishl (C : vC X cc own nL tys R0 ad nA) {x y : Int32} (d : decode cc pc = .ok (.ishl, 1))  (K : vV X ws (pc + 1) lv (.int (x <<< (y &&& 31)) :: st)) : vV X ws pc lv (.int y :: .int x :: st) := fun H locs hP hD hS ls hl => lv_ishl C.hx C.hb d (K H locs hP hD hS ls hl)
theorem v_ishr (C : vC X cc own nL tys R0 ad nA) {x y : Int32} (d : decode cc pc = .ok (.ishr, 1))  (K : vV X ws (pc + 1) lv (.int (x >>> (y &&& 31)) :: st)) : vV X ws pc lv (.int y :: .int x :: st) := fun H locs hP hD hS ls hl => lv_ishr C.hx C.hb d (K H locs hP hD hS ls hl)
theorem v_land (C : vC X cc own nL tys R0 ad nA) {x y : Int64} (d : decode cc pc = .ok (.land, 1))  (K : vV X ws (pc + 1) lv (.long (x &&& y) :: st)) : vV X ws pc lv (.long y :: .long x :: st) := fun H locs hP hD hS ls hl => lv_land C.hx C.hb d (K H locs hP hD hS ls hl)
theorem v_lor (C : vC X cc own nL tys R0 ad nA) {x y : Int64} (d : decode cc pc = .ok (.lor, 1))  (K : vV X ws (pc + 1) lv (.long (x ||| y) :: st)) : vV X ws pc lv (.long y :: .long x :: st) := fun H locs hP hD hS ls hl => lv_lor C.hx C.hb d (K H locs hP hD hS ls hl)
theorem v_lushr (C : vC X cc own nL tys R0 ad nA) {x v : Int64} {y : Int32} (d : decode cc pc = .ok (.lushr, 1)) (hv : (x.toUInt64 >>> (y.toInt64.toUInt64 &&& Int64.toUInt64 63)).toInt64 = v) (K : vV X ws (pc + 1) lv (.long v :: st)) : vV X ws pc lv (.int y :: .long x :: st) := fun H locs hP hD hS ls hl => lv_lushr C.hx C.hb d hv (K H locs hP hD hS ls hl)
theorem v_lshl (C : vC X cc own nL tys R0 ad nA) {x v : Int64} {y : Int32} (d : decode cc pc = .ok (.lshl, 1)) (hv : x <<< (y.toInt64 &&& 63) = v) (K : vV X ws (pc + 1) lv (.long v :: st)) : vV X ws pc lv (.int y :: .long x :: st) := fun H locs hP hD hS ls hl => lv_lshl C.hx C.hb d hv (K H locs hP hD hS ls hl)
theorem v_iushr (C : vC X cc own nL tys R0 ad nA) {x y v : Int32} (d : decode cc pc = .ok (.iushr, 1)) (hv : (x.toUInt32 >>> (y.toUInt32 &&& Int32.toUInt32 31)).toInt32 = v) (K : vV X ws (pc + 1) lv (.int v :: st)) : vV X ws pc lv (.int y :: .int x :: st) := fun H locs hP hD hS ls hl => lv_iushr C.hx C.hb d hv (K H locs hP hD hS ls hl)
theorem v_lcmp (C : vC X cc own nL tys R0 ad nA) {x y : Int64} (d : decode cc pc = .ok (.lcmp, 1))  (K : vV X ws (pc + 1) lv (.int (lg_cmp x y) :: st)) : vV X ws pc lv (.long y :: .long x :: st) := fun H locs hP hD hS ls hl => W.lcmp C.hx C.hb d (K H locs hP hD hS ls hl)
theorem v_dup (C : vC X cc own nL tys R0 ad nA) {va : Value} (d : decode cc pc = .ok (.dup, 1)) (h : va.category = 1) (K : vV X ws (pc + 1) lv (va :: va :: st)) : vV X ws pc lv (va :: st) := fun H locs hP hD hS ls hl => lv_dup C.hx C.hb d h (K H locs hP hD hS ls hl)
theorem v_dup2 (C : vC X cc own nL tys R0 ad nA) {va vb : Value} (d : decode cc pc = .ok (.dup2, 1)) (h1 : va.category = 1) (h2 : vb.category = 1) (K : vV X ws (pc + 1) lv (va :: vb :: va :: vb :: st)) : vV X ws pc lv (va :: vb :: st) := fun H locs hP hD hS ls hl => lv_dup2_11 C.hx C.hb d h1 h2 (K H locs hP hD hS ls hl)
theorem v_iaddN (C : vC X cc own nL tys R0 ad nA) {a b : Nat} (d : decode cc pc = .ok (.iadd, 1))  (K : vV X ws (pc + 1) lv (.int (nI (a + b)) :: st)) : vV X ws pc lv (.int (nI b) :: .int (nI a) :: st) := fun H locs hP hD hS ls hl => lv_iadd C.hx C.hb d (by rw [nI_add]; exact (K H locs hP hD hS ls hl))
theorem v_isubN (C : vC X cc own nL tys R0 ad nA) {a b : Nat} (d : decode cc pc = .ok (.isub, 1)) (h : b ≤ a) (K : vV X ws (pc + 1) lv (.int (nI (a - b)) :: st)) : vV X ws pc lv (.int (nI b) :: .int (nI a) :: st) := fun H locs hP hD hS ls hl => lv_isub C.hx C.hb d (by rw [pk_sub h]; exact (K H locs hP hD hS ls hl))
theorem v_imulN (C : vC X cc own nL tys R0 ad nA) {a b : Nat} (d : decode cc pc = .ok (.imul, 1))  (K : vV X ws (pc + 1) lv (.int (nI (a * b)) :: st)) : vV X ws pc lv (.int (nI b) :: .int (nI a) :: st) := fun H locs hP hD hS ls hl => lv_imul C.hx C.hb d (by rw [pk_mul]; exact (K H locs hP hD hS ls hl))
theorem v_idivN (C : vC X cc own nL tys R0 ad nA) {a b : Nat} (d : decode cc pc = .ok (.idiv, 1)) (ha : a < 2 ^ 31) (h0 : 0 < b) (hb : b < 2 ^ 31) (K : vV X ws (pc + 1) lv (.int (nI (a / b)) :: st)) : vV X ws pc lv (.int (nI b) :: .int (nI a) :: st) := fun H locs hP hD hS ls hl => lv_idiv C.hx C.hb d (nI_ne0 h0 hb) (by rw [pk_div ha h0 hb]; exact (K H locs hP hD hS ls hl))
theorem v_iremN (C : vC X cc own nL tys R0 ad nA) {a b : Nat} (d : decode cc pc = .ok (.irem, 1)) (ha : a < 2 ^ 31) (h0 : 0 < b) (hb : b < 2 ^ 31) (K : vV X ws (pc + 1) lv (.int (nI (a % b)) :: st)) : vV X ws pc lv (.int (nI b) :: .int (nI a) :: st) := fun H locs hP hD hS ls hl => lv_irem C.hx C.hb d (nI_ne0 h0 hb) (by rw [pk_rem ha h0 hb]; exact (K H locs hP hD hS ls hl))
theorem v_iaddE (C : vC X cc own nL tys R0 ad nA) {x y v : Int32} (d : decode cc pc = .ok (.iadd, 1)) (hv : x + y = v) (K : vV X ws (pc + 1) lv (.int v :: st)) : vV X ws pc lv (.int y :: .int x :: st) := fun H locs hP hD hS ls hl => lv_iadd C.hx C.hb d (by rw [hv]; exact (K H locs hP hD hS ls hl))
theorem v_isubE (C : vC X cc own nL tys R0 ad nA) {x y v : Int32} (d : decode cc pc = .ok (.isub, 1)) (hv : x - y = v) (K : vV X ws (pc + 1) lv (.int v :: st)) : vV X ws pc lv (.int y :: .int x :: st) := fun H locs hP hD hS ls hl => lv_isub C.hx C.hb d (by rw [hv]; exact (K H locs hP hD hS ls hl))
theorem v_iandE (C : vC X cc own nL tys R0 ad nA) {x y v : Int32} (d : decode cc pc = .ok (.iand, 1)) (hv : x &&& y = v) (K : vV X ws (pc + 1) lv (.int v :: st)) : vV X ws pc lv (.int y :: .int x :: st) := fun H locs hP hD hS ls hl => lv_iand C.hx C.hb d (by rw [hv]; exact (K H locs hP hD hS ls hl))
theorem v_ishlE (C : vC X cc own nL tys R0 ad nA) {x y v : Int32} (d : decode cc pc = .ok (.ishl, 1)) (hv : x <<< (y &&& 31) = v) (K : vV X ws (pc + 1) lv (.int v :: st)) : vV X ws pc lv (.int y :: .int x :: st) := fun H locs hP hD hS ls hl => lv_ishl C.hx C.hb d (by rw [hv]; exact (K H locs hP hD hS ls hl))
theorem v_ishrE (C : vC X cc own nL tys R0 ad nA) {x y v : Int32} (d : decode cc pc = .ok (.ishr, 1)) (hv : x >>> (y &&& 31) = v) (K : vV X ws (pc + 1) lv (.int v :: st)) : vV X ws pc lv (.int y :: .int x :: st) := fun H locs hP hD hS ls hl => lv_ishr C.hx C.hb d (by rw [hv]; exact (K H locs hP hD hS ls hl))
theorem v_landE (C : vC X cc own nL tys R0 ad nA) {x y v : Int64} (d : decode cc pc = .ok (.land, 1)) (hv : x &&& y = v) (K : vV X ws (pc + 1) lv (.long v :: st)) : vV X ws pc lv (.long y :: .long x :: st) := fun H locs hP hD hS ls hl => lv_land C.hx C.hb d (by rw [hv]; exact (K H locs hP hD hS ls hl))
theorem v_lorE (C : vC X cc own nL tys R0 ad nA) {x y v : Int64} (d : decode cc pc = .ok (.lor, 1)) (hv : x ||| y = v) (K : vV X ws (pc + 1) lv (.long v :: st)) : vV X ws pc lv (.long y :: .long x :: st) := fun H locs hP hD hS ls hl => lv_lor C.hx C.hb d (by rw [hv]; exact (K H locs hP hD hS ls hl))
theorem v_imulE (C : vC X cc own nL tys R0 ad nA) {x y v : Int32} (d : decode cc pc = .ok (.imul, 1)) (hv : x * y = v) (K : vV X ws (pc + 1) lv (.int v :: st)) : vV X ws pc lv (.int y :: .int x :: st) := fun H locs hP hD hS ls hl => lv_imul C.hx C.hb d (by rw [hv]; exact (K H locs hP hD hS ls hl))
theorem v_if_eq (C : vC X cc own nL tys R0 ad nA) {x : Int32} {off : Int} {tgt : Nat} (d : decode cc pc = .ok (.ifCond .eq off, 3)) (ht : (pc : Int) + off = (tgt : Int)) (kt : x = 0 → vV X ws tgt lv st) (kf : ¬ x = 0 → vV X ws (pc + 3) lv st) : vV X ws pc lv (.int x :: st) := fun H locs hP hD hS ls hl => lv_if_eq C.hx C.hb d ht (fun h => kt h H locs hP hD hS ls hl) (fun h => kf h H locs hP hD hS ls hl)
theorem v_if_ne (C : vC X cc own nL tys R0 ad nA) {x : Int32} {off : Int} {tgt : Nat} (d : decode cc pc = .ok (.ifCond .ne off, 3)) (ht : (pc : Int) + off = (tgt : Int)) (kt : ¬ x = 0 → vV X ws tgt lv st) (kf : x = 0 → vV X ws (pc + 3) lv st) : vV X ws pc lv (.int x :: st) := fun H locs hP hD hS ls hl => lv_if_ne C.hx C.hb d ht (fun h => kt h H locs hP hD hS ls hl) (fun h => kf h H locs hP hD hS ls hl)
theorem v_if_lt (C : vC X cc own nL tys R0 ad nA) {x : Int32} {off : Int} {tgt : Nat} (d : decode cc pc = .ok (.ifCond .lt off, 3)) (ht : (pc : Int) + off = (tgt : Int)) (kt : x < 0 → vV X ws tgt lv st) (kf : ¬ x < 0 → vV X ws (pc + 3) lv st) : vV X ws pc lv (.int x :: st) := fun H locs hP hD hS ls hl => lv_if_lt C.hx C.hb d ht (fun h => kt h H locs hP hD hS ls hl) (fun h => kf h H locs hP hD hS ls hl)
theorem v_if_ge (C : vC X cc own nL tys R0 ad nA) {x : Int32} {off : Int} {tgt : Nat} (d : decode cc pc = .ok (.ifCond .ge off, 3)) (ht : (pc : Int) + off = (tgt : Int)) (kt : 0 ≤ x → vV X ws tgt lv st) (kf : ¬ 0 ≤ x → vV X ws (pc + 3) lv st) : vV X ws pc lv (.int x :: st) := fun H locs hP hD hS ls hl => lv_if_ge C.hx C.hb d ht (fun h => kt h H locs hP hD hS ls hl) (fun h => kf h H locs hP hD hS ls hl)
theorem v_if_le (C : vC X cc own nL tys R0 ad nA) {x : Int32} {off : Int} {tgt : Nat} (d : decode cc pc = .ok (.ifCond .le off, 3)) (ht : (pc : Int) + off = (tgt : Int)) (kt : x ≤ 0 → vV X ws tgt lv st) (kf : ¬ x ≤ 0 → vV X ws (pc + 3) lv st) : vV X ws pc lv (.int x :: st) := fun H locs hP hD hS ls hl => lv_if_le C.hx C.hb d ht (fun h => kt h H locs hP hD hS ls hl) (fun h => kf h H locs hP hD hS ls hl)
theorem v_icmp_eq (C : vC X cc own nL tys R0 ad nA) {x y : Int32} {off : Int} {tgt : Nat} (d : decode cc pc = .ok (.if_icmp .eq off, 3)) (ht : (pc : Int) + off = (tgt : Int)) (kt : x = y → vV X ws tgt lv st) (kf : ¬ x = y → vV X ws (pc + 3) lv st) : vV X ws pc lv (.int y :: .int x :: st) := fun H locs hP hD hS ls hl => lv_icmp_eq C.hx C.hb d ht (fun h => kt h H locs hP hD hS ls hl) (fun h => kf h H locs hP hD hS ls hl)
theorem v_icmp_ne (C : vC X cc own nL tys R0 ad nA) {x y : Int32} {off : Int} {tgt : Nat} (d : decode cc pc = .ok (.if_icmp .ne off, 3)) (ht : (pc : Int) + off = (tgt : Int)) (kt : ¬ x = y → vV X ws tgt lv st) (kf : x = y → vV X ws (pc + 3) lv st) : vV X ws pc lv (.int y :: .int x :: st) := fun H locs hP hD hS ls hl => lv_icmp_ne C.hx C.hb d ht (fun h => kt h H locs hP hD hS ls hl) (fun h => kf h H locs hP hD hS ls hl)
theorem v_icmp_lt (C : vC X cc own nL tys R0 ad nA) {x y : Int32} {off : Int} {tgt : Nat} (d : decode cc pc = .ok (.if_icmp .lt off, 3)) (ht : (pc : Int) + off = (tgt : Int)) (kt : x < y → vV X ws tgt lv st) (kf : ¬ x < y → vV X ws (pc + 3) lv st) : vV X ws pc lv (.int y :: .int x :: st) := fun H locs hP hD hS ls hl => lv_icmp_lt C.hx C.hb d ht (fun h => kt h H locs hP hD hS ls hl) (fun h => kf h H locs hP hD hS ls hl)
theorem v_icmp_ge (C : vC X cc own nL tys R0 ad nA) {x y : Int32} {off : Int} {tgt : Nat} (d : decode cc pc = .ok (.if_icmp .ge off, 3)) (ht : (pc : Int) + off = (tgt : Int)) (kt : y ≤ x → vV X ws tgt lv st) (kf : ¬ y ≤ x → vV X ws (pc + 3) lv st) : vV X ws pc lv (.int y :: .int x :: st) := fun H locs hP hD hS ls hl => lv_icmp_ge C.hx C.hb d ht (fun h => kt h H locs hP hD hS ls hl) (fun h => kf h H locs hP hD hS ls hl)
theorem v_icmp_gt (C : vC X cc own nL tys R0 ad nA) {x y : Int32} {off : Int} {tgt : Nat} (d : decode cc pc = .ok (.if_icmp .gt off, 3)) (ht : (pc : Int) + off = (tgt : Int)) (kt : y < x → vV X ws tgt lv st) (kf : ¬ y < x → vV X ws (pc + 3) lv st) : vV X ws pc lv (.int y :: .int x :: st) := fun H locs hP hD hS ls hl => lv_icmp_gt C.hx C.hb d ht (fun h => kt h H locs hP hD hS ls hl) (fun h => kf h H locs hP hD hS ls hl)
theorem v_icmp_le (C : vC X cc own nL tys R0 ad nA) {x y : Int32} {off : Int} {tgt : Nat} (d : decode cc pc = .ok (.if_icmp .le off, 3)) (ht : (pc : Int) + off = (tgt : Int)) (kt : x ≤ y → vV X ws tgt lv st) (kf : ¬ x ≤ y → vV X ws (pc + 3) lv st) : vV X ws pc lv (.int y :: .int x :: st) := fun H locs hP hD hS ls hl => lv_icmp_le C.hx C.hb d ht (fun h => kt h H locs hP hD hS ls hl) (fun h => kf h H locs hP hD hS ls hl)
theorem v_icmp_eqN (C : vC X cc own nL tys R0 ad nA) {a b : Nat} {off : Int} {tgt : Nat} (d : decode cc pc = .ok (.if_icmp .eq off, 3)) (ht : (pc : Int) + off = (tgt : Int)) (ha : a < 2 ^ 31) (hb : b < 2 ^ 31) (kt : a = b → vV X ws tgt lv st) (kf : ¬ a = b → vV X ws (pc + 3) lv st) : vV X ws pc lv (.int (nI b) :: .int (nI a) :: st) := v_icmp_eq C d ht (fun h => kt ((nI_eq ha hb).mp h)) (fun h => kf (fun q => h ((nI_eq ha hb).mpr q)))
theorem v_icmp_neN (C : vC X cc own nL tys R0 ad nA) {a b : Nat} {off : Int} {tgt : Nat} (d : decode cc pc = .ok (.if_icmp .ne off, 3)) (ht : (pc : Int) + off = (tgt : Int)) (ha : a < 2 ^ 31) (hb : b < 2 ^ 31) (kt : ¬ a = b → vV X ws tgt lv st) (kf : a = b → vV X ws (pc + 3) lv st) : vV X ws pc lv (.int (nI b) :: .int (nI a) :: st) := v_icmp_ne C d ht (fun h => kt (fun q => h ((nI_eq ha hb).mpr q))) (fun h => kf ((nI_eq ha hb).mp h))
theorem v_icmp_ltN (C : vC X cc own nL tys R0 ad nA) {a b : Nat} {off : Int} {tgt : Nat} (d : decode cc pc = .ok (.if_icmp .lt off, 3)) (ht : (pc : Int) + off = (tgt : Int)) (ha : a < 2 ^ 31) (hb : b < 2 ^ 31) (kt : a < b → vV X ws tgt lv st) (kf : b ≤ a → vV X ws (pc + 3) lv st) : vV X ws pc lv (.int (nI b) :: .int (nI a) :: st) := v_icmp_lt C d ht (fun h => kt ((nI_ltI ha hb).mp h)) (fun h => kf (Nat.not_lt.mp (fun q => h ((nI_ltI ha hb).mpr q))))
theorem v_icmp_geN (C : vC X cc own nL tys R0 ad nA) {a b : Nat} {off : Int} {tgt : Nat} (d : decode cc pc = .ok (.if_icmp .ge off, 3)) (ht : (pc : Int) + off = (tgt : Int)) (ha : a < 2 ^ 31) (hb : b < 2 ^ 31) (kt : b ≤ a → vV X ws tgt lv st) (kf : a < b → vV X ws (pc + 3) lv st) : vV X ws pc lv (.int (nI b) :: .int (nI a) :: st) := v_icmp_ge C d ht (fun h => kt ((nI_leI hb ha).mp h)) (fun h => kf (Nat.not_le.mp (fun q => h ((nI_leI hb ha).mpr q))))
theorem v_icmp_gtN (C : vC X cc own nL tys R0 ad nA) {a b : Nat} {off : Int} {tgt : Nat} (d : decode cc pc = .ok (.if_icmp .gt off, 3)) (ht : (pc : Int) + off = (tgt : Int)) (ha : a < 2 ^ 31) (hb : b < 2 ^ 31) (kt : b < a → vV X ws tgt lv st) (kf : a ≤ b → vV X ws (pc + 3) lv st) : vV X ws pc lv (.int (nI b) :: .int (nI a) :: st) := v_icmp_gt C d ht (fun h => kt ((nI_ltI hb ha).mp h)) (fun h => kf (Nat.not_lt.mp (fun q => h ((nI_ltI hb ha).mpr q))))
theorem v_icmp_leN (C : vC X cc own nL tys R0 ad nA) {a b : Nat} {off : Int} {tgt : Nat} (d : decode cc pc = .ok (.if_icmp .le off, 3)) (ht : (pc : Int) + off = (tgt : Int)) (ha : a < 2 ^ 31) (hb : b < 2 ^ 31) (kt : a ≤ b → vV X ws tgt lv st) (kf : b < a → vV X ws (pc + 3) lv st) : vV X ws pc lv (.int (nI b) :: .int (nI a) :: st) := v_icmp_le C d ht (fun h => kt ((nI_leI ha hb).mp h)) (fun h => kf (Nat.not_le.mp (fun q => h ((nI_leI ha hb).mpr q))))
/-- a truth value as an int -/
def bI (b : Bool) : Int32 := if b = true then 1 else 0
theorem bI_t : bI true = 1 := rfl
theorem bI_f : bI false = 0 := rfl
theorem bI_0 {b : Bool} : bI b = 0 ↔ b = false := by cases b <;> decide
theorem bI_inj {a b : Bool} : bI a = bI b ↔ a = b := by cases a <;> cases b <;> decide
theorem v_if_eqB (C : vC X cc own nL tys R0 ad nA) {b : Bool} {off : Int} {tgt : Nat} (d : decode cc pc = .ok (.ifCond .eq off, 3)) (ht : (pc : Int) + off = (tgt : Int)) (kt : b = false → vV X ws tgt lv st) (kf : b = true → vV X ws (pc + 3) lv st) : vV X ws pc lv (.int (bI b) :: st) := v_if_eq C d ht (fun h => kt (bI_0.mp h)) (fun h => kf (by cases b; exact absurd rfl h; rfl))
theorem v_if_neB (C : vC X cc own nL tys R0 ad nA) {b : Bool} {off : Int} {tgt : Nat} (d : decode cc pc = .ok (.ifCond .ne off, 3)) (ht : (pc : Int) + off = (tgt : Int)) (kt : b = true → vV X ws tgt lv st) (kf : b = false → vV X ws (pc + 3) lv st) : vV X ws pc lv (.int (bI b) :: st) := v_if_ne C d ht (fun h => kt (by cases b; exact absurd rfl h; rfl)) (fun h => kf (bI_0.mp h))
theorem v_if_eqN (C : vC X cc own nL tys R0 ad nA) {a : Nat} {off : Int} {tgt : Nat} (d : decode cc pc = .ok (.ifCond .eq off, 3)) (ht : (pc : Int) + off = (tgt : Int)) (ha : a < 2 ^ 31) (kt : a = 0 → vV X ws tgt lv st) (kf : 0 < a → vV X ws (pc + 3) lv st) : vV X ws pc lv (.int (nI a) :: st) := v_if_eq C d ht (fun h => kt (Nat.eq_zero_of_not_pos (fun q => nI_ne0 q ha h))) (fun h => kf (Nat.pos_of_ne_zero (fun q => h (by rw [q]; rfl))))
theorem v_if_neN (C : vC X cc own nL tys R0 ad nA) {a : Nat} {off : Int} {tgt : Nat} (d : decode cc pc = .ok (.ifCond .ne off, 3)) (ht : (pc : Int) + off = (tgt : Int)) (ha : a < 2 ^ 31) (kt : 0 < a → vV X ws tgt lv st) (kf : a = 0 → vV X ws (pc + 3) lv st) : vV X ws pc lv (.int (nI a) :: st) := v_if_ne C d ht (fun h => kt (Nat.pos_of_ne_zero (fun q => h (by rw [q]; rfl)))) (fun h => kf (Nat.eq_zero_of_not_pos (fun q => nI_ne0 q ha h)))
theorem lg_cmp_eq0 (x y : Int64) : lg_cmp x y = 0 ↔ x = y := by
  unfold lg_cmp
  by_cases h1 : x > y
  · rw [if_pos h1]
    refine ⟨fun h => absurd h (by decide), fun h => ?_⟩
    subst h
    exact absurd h1 (Int64.lt_irrefl)
  · rw [if_neg h1]
    by_cases h2 : x = y
    · rw [if_pos h2]
      exact ⟨fun _ => h2, fun _ => rfl⟩
    · rw [if_neg h2]
      exact ⟨fun h => absurd h (by decide), fun h => absurd h h2⟩
theorem v_lc_eq (C : vC X cc own nL tys R0 ad nA) {x y : Int64} {off : Int} {tgt : Nat} (d1 : decode cc pc = .ok (.lcmp, 1)) (d : decode cc (pc + 1) = .ok (.ifCond .eq off, 3)) (ht : ((pc + 1 : Nat) : Int) + off = (tgt : Int)) (kt : x = y → vV X ws tgt lv st) (kf : ¬ x = y → vV X ws (pc + 4) lv st) : vV X ws pc lv (.long y :: .long x :: st) := v_lcmp C d1 (v_if_eq C d ht (fun h => kt ((lg_cmp_eq0 x y).mp h)) (fun h => kf (fun q => h ((lg_cmp_eq0 x y).mpr q))))
theorem v_lc_ne (C : vC X cc own nL tys R0 ad nA) {x y : Int64} {off : Int} {tgt : Nat} (d1 : decode cc pc = .ok (.lcmp, 1)) (d : decode cc (pc + 1) = .ok (.ifCond .ne off, 3)) (ht : ((pc + 1 : Nat) : Int) + off = (tgt : Int)) (kt : ¬ x = y → vV X ws tgt lv st) (kf : x = y → vV X ws (pc + 4) lv st) : vV X ws pc lv (.long y :: .long x :: st) := v_lcmp C d1 (v_if_ne C d ht (fun h => kt (fun q => h ((lg_cmp_eq0 x y).mpr q))) (fun h => kf ((lg_cmp_eq0 x y).mp h)))
theorem v_goto (C : vC X cc own nL tys R0 ad nA) {off : Int} {tgt : Nat} (d : decode cc pc = .ok (.goto off, 3)) (ht : (pc : Int) + off = (tgt : Int)) (K : vV X ws tgt lv st) : vV X ws pc lv st := fun H locs hP hD hS ls hl => lv_goto C.hx C.hb d ht (K H locs hP hD hS ls hl)
theorem v_get (C : vC X cc own nL tys R0 ad nA) {Cn ref : String} {T : u_T} {N ci index : Nat} (hin : ∀ w ∈ u_ws Cn T N, w ∈ lw_all) (q0 : Nat) {a : Nat} {fs : List Value} (he : ws[q0]? = some (a, .inr (ci, fs))) (hc : vwCl[ci]? = some (Cn, T, N)) (k : Nat) (hk : k < N) (hlink : Cond.fieldLink own index ref (T k).2.1 (T k).2.2.1 ∈ lw_all) (hsame : (T k).1 = ref) {v : Value} (hv : fs[k]? = some v) (d : decode cc pc = .ok (.getfield index, 3)) (K : vV X ws (pc + 3) lv (v :: st)) : vV X ws pc lv (.ref a :: st) := fun H locs hP hD hS ls hl => va_get C.hx C.hb C.ht hin C.ho C.hK hP q0 he hc k hk (C.ht _ hlink) (fun x h => by rw [← hsame]; exact h) hv d (K H locs hP hD hS ls hl)
theorem v_put (C : vC X cc own nL tys R0 ad nA) {Cn ref : String} {T : u_T} {N ci index : Nat} (hin : ∀ w ∈ u_ws Cn T N, w ∈ lw_all) {ty0 : Nat → FieldType} (hty : ∀ k, k < N → parseFieldDescriptor (T k).2.2.1 = some (ty0 k)) (hnm : ∀ a, a < N → ∀ b, b < N → a ≠ b → (T a).2.1 ≠ (T b).2.1) (q0 : Nat) {a : Nat} {fs : List Value} (he : ws[q0]? = some (a, .inr (ci, fs))) (hc : vwCl[ci]? = some (Cn, T, N)) (k : Nat) (hk : k < N) (hlink : Cond.fieldLink own index ref (T k).2.1 (T k).2.2.1 ∈ lw_all) (hsame : (T k).1 = ref) (hfin : (T k).2.2.2 = false) {ty : FieldType} {v : Value} (hd : parseFieldDescriptor (T k).2.2.1 = some ty) (hn : narrow ty v = v) (hfit : fits ty v = true) (hl : k < fs.length) (hw : ws.set q0 (a, .inr (ci, fs.set k v)) = ws') (d : decode cc pc = .ok (.putfield index, 3)) (K : vV X ws' (pc + 3) lv st) : vV X ws pc lv (v :: .ref a :: st) := by
  subst hw
  exact fun H locs hP hD hS ls hlv => va_put C.hx C.hb C.ht hin ty0 hty hnm C.ho C.hK hP hD hS q0 he hc k hk (C.ht _ hlink) (fun x h => by rw [← hsame]; exact h) hfin hd hn hfit hl d (fun H1 l1 a b c => K H1 l1 a b c ls hlv)
theorem v_iald (C : vC X cc own nL tys R0 ad nA) (q0 t0 : Nat) {a : Nat} {cA : ClassId} {n : Nat} {f : Nat → Int32} (ha : ws[q0]? = some (a, .inl (cA, n, .inl f))) (ht : tys[t0]? = some (cA, .int)) (hn : n < 2 ^ 31) {j : Nat} (hj : j < n) (d : decode cc pc = .ok (.iaload, 1)) (K : vV X ws (pc + 1) lv (.int (f j) :: st)) : vV X ws pc lv (.int (nI j) :: .ref a :: st) := fun H locs hP hD hS ls hl => va_iald C.hx C.hb C.hK hP q0 t0 ha ht (vp_in_nI hj hn) d (by rw [nI_clamp (Nat.lt_trans hj hn)]; exact (K H locs hP hD hS ls hl))
theorem v_lald (C : vC X cc own nL tys R0 ad nA) (q0 t0 : Nat) {a : Nat} {cA : ClassId} {n : Nat} {f : Nat → Int64} (ha : ws[q0]? = some (a, .inl (cA, n, .inr (.inl f)))) (ht : tys[t0]? = some (cA, .long)) (hn : n < 2 ^ 31) {j : Nat} (hj : j < n) (d : decode cc pc = .ok (.laload, 1)) (K : vV X ws (pc + 1) lv (.long (f j) :: st)) : vV X ws pc lv (.int (nI j) :: .ref a :: st) := fun H locs hP hD hS ls hl => va_lald C.hx C.hb C.hK hP q0 t0 ha ht (vp_in_nI hj hn) d (by rw [nI_clamp (Nat.lt_trans hj hn)]; exact (K H locs hP hD hS ls hl))
theorem v_zald (C : vC X cc own nL tys R0 ad nA) (q0 t0 : Nat) {a : Nat} {cA : ClassId} {n : Nat} {f : Nat → Int32} (ha : ws[q0]? = some (a, .inl (cA, n, .inl f))) (ht : tys[t0]? = some (cA, .boolean)) (hn : n < 2 ^ 31) {j : Nat} (hj : j < n) (d : decode cc pc = .ok (.baload, 1)) (K : vV X ws (pc + 1) lv (.int (f j) :: st)) : vV X ws pc lv (.int (nI j) :: .ref a :: st) := fun H locs hP hD hS ls hl => va_zald C.hx C.hb C.hK hP q0 t0 ha ht (vp_in_nI hj hn) d (by rw [nI_clamp (Nat.lt_trans hj hn)]; exact (K H locs hP hD hS ls hl))
theorem v_iast (C : vC X cc own nL tys R0 ad nA) (q0 t0 : Nat) {a : Nat} {cA : ClassId} {n : Nat} {f : Nat → Int32} (ha : ws[q0]? = some (a, .inl (cA, n, .inl f))) (ht : tys[t0]? = some (cA, .int)) (hn : n < 2 ^ 31) {j : Nat} {x : Int32} (hj : j < n) (hw : ws.set q0 (a, .inl (cA, n, .inl (upd f j x))) = ws') (d : decode cc pc = .ok (.iastore, 1)) (K : vV X ws' (pc + 1) lv st) : vV X ws pc lv (.int x :: .int (nI j) :: .ref a :: st) := by
  subst hw
  have e : (nI j).toNatClampNeg = j := nI_clamp (Nat.lt_trans hj hn)
  exact fun H locs hP hD hS ls hl => va_iast C.hx C.hb C.hK hP hD hS q0 t0 ha ht (vp_in_nI hj hn) d (fun H1 l1 a b c => by rw [e] at a b; exact K H1 l1 a b c ls hl)
theorem v_last (C : vC X cc own nL tys R0 ad nA) (q0 t0 : Nat) {a : Nat} {cA : ClassId} {n : Nat} {f : Nat → Int64} (ha : ws[q0]? = some (a, .inl (cA, n, .inr (.inl f)))) (ht : tys[t0]? = some (cA, .long)) (hn : n < 2 ^ 31) {j : Nat} {x : Int64} (hj : j < n) (hw : ws.set q0 (a, .inl (cA, n, .inr (.inl (vp_updL f j x)))) = ws') (d : decode cc pc = .ok (.lastore, 1)) (K : vV X ws' (pc + 1) lv st) : vV X ws pc lv (.long x :: .int (nI j) :: .ref a :: st) := by
  subst hw
  have e : (nI j).toNatClampNeg = j := nI_clamp (Nat.lt_trans hj hn)
  exact fun H locs hP hD hS ls hl => va_last C.hx C.hb C.hK hP hD hS q0 t0 ha ht (vp_in_nI hj hn) d (fun H1 l1 a b c => by rw [e] at a b; exact K H1 l1 a b c ls hl)
theorem nar_bI (x : Bool) : vp_nar .boolean (bI x) = bI x := by cases x <;> decide
theorem v_zast (C : vC X cc own nL tys R0 ad nA) (q0 t0 : Nat) {a : Nat} {cA : ClassId} {n : Nat} {f : Nat → Int32} (ha : ws[q0]? = some (a, .inl (cA, n, .inl f))) (ht : tys[t0]? = some (cA, .boolean)) (hn : n < 2 ^ 31) {j : Nat} {x : Bool} (hj : j < n) (hw : ws.set q0 (a, .inl (cA, n, .inl (upd f j (bI x)))) = ws') (d : decode cc pc = .ok (.bastore, 1)) (K : vV X ws' (pc + 1) lv st) : vV X ws pc lv (.int (bI x) :: .int (nI j) :: .ref a :: st) := by
  subst hw
  have e : (nI j).toNatClampNeg = j := nI_clamp (Nat.lt_trans hj hn)
  exact fun H locs hP hD hS ls hl => va_zast C.hx C.hb C.hK hP hD hS q0 t0 ha ht (vp_in_nI hj hn) d (fun H1 l1 a b c => by rw [e, nar_bI] at a b; exact K H1 l1 a b c ls hl)
/-- a contract's start: the heap holds the world ws -/
def vPre (D : va_G) (tys : List (ClassId × FieldType)) (ws : va_W) (sz : Nat) (U : State) : Prop := U.heap.size = sz ∧ va_P D vwCl ws U.heap ∧ va_K D vwCl tys U ∧ va_D (fun _ => True) ws
/-- a contract's end -/
def vB (D : va_G) {S : Type} (wf : S → va_W) (A : Nat → Prop) (u : S) (t : State) : Prop := va_P D vwCl (wf u) t.heap ∧ va_D A (wf u)
abbrev vMi {S : Type} (l : Launch) (D : va_G) (tys : List (ClassId × FieldType)) (y : MethodName) (b : ByteArray) (L : Nat) (ret : Option FieldType) (d : Nat) (av : List Value) (ws : va_W) (ad : Nat → Nat) (n : Nat) (post : Int32 → S → Prop) (wf : S → va_W) : Prop := ∀ sz, Met l y (ws_ y b L ret) (vRm d) (va_Pc av (vPre D tys ws sz)) (va_Qi post (vB D wf (vA ad n sz)) (vA ad n sz)) 0 0 (vA ad n sz)
abbrev vMl {S : Type} (l : Launch) (D : va_G) (tys : List (ClassId × FieldType)) (y : MethodName) (b : ByteArray) (L : Nat) (d : Nat) (av : List Value) (ws : va_W) (ad : Nat → Nat) (n : Nat) (post : Int64 → S → Prop) (wf : S → va_W) : Prop := ∀ sz, Met l y (ws_ y b L (some .long)) (vRm d) (va_Pc av (vPre D tys ws sz)) (va_Ql post (vB D wf (vA ad n sz)) (vA ad n sz)) 0 0 (vA ad n sz)
abbrev vMv {S : Type} (l : Launch) (D : va_G) (tys : List (ClassId × FieldType)) (y : MethodName) (b : ByteArray) (L : Nat) (d : Nat) (av : List Value) (ws : va_W) (ad : Nat → Nat) (n : Nat) (post : S → Prop) (wf : S → va_W) : Prop := ∀ sz, Met l y (ws_ y b L none) (vRm d) (va_Pc av (vPre D tys ws sz)) (va_Qv post (vB D wf (vA ad n sz)) (vA ad n sz)) 0 0 (vA ad n sz)
/-- what a method owes at its end -/
def vE (X : VX) (ret : Option FieldType) (Qc : (Nat → Prop) → Array Value → State → Outcome → State → Prop) : Prop := X.mt.sig.returnType = ret ∧ X.k = 0 ∧ X.n = 0 ∧ X.Q = MQ X.bl (Qc X.A) X.ar X.s 0 0 X.A
theorem vPre_blind {D : va_G} {tys : List (ClassId × FieldType)} {ws : va_W} {sz : Nat} {av : List Value} : FrameBlind (va_Pc av (vPre D tys ws sz)) := fun a U g mk q => by
  obtain ⟨q0, q1, qP, qK, qD⟩ := q
  exact ⟨q0, q1, qP, va_K.moved (u := U) (U := U.calling g mk a) (Vm.Alike.refl U.vm) qK, qD⟩
theorem vMi_of {S : Type} {l : Launch} {D : va_G} {tys : List (ClassId × FieldType)} {y : MethodName} {b : ByteArray} {L : Nat} {ret : Option FieldType} {dd : Nat} {av : List Value} {ws : va_W} {ad : Nat → Nat} {n : Nat} {post : Int32 → S → Prop} {wf : S → va_W} (hy : plainName y.cls = true) (hlen : (lg_sl av).length ≤ L) (hws : ∀ (k : Nat) (q : Nat × va_E), ws[k]? = some q → ∃ j, j < n ∧ q.1 = ad j)
    (body : ∀ X : VX, vC X b y.cls L tys (vRm dd) ad n → vE X ret (fun A => va_Qi post (vB X.D wf A) A) → vV X ws 0 (lv_args 0 av) []) : vMi l D tys y b L ret dd av ws ad n post wf := by
  intro sz
  refine Met.ofW (cc := b) (maxL := L) (ret := ret) hy rfl ?_
  intro p e s m args below meth c s₁ B hml hv
  obtain ⟨rfl, hsz, hP, hK, hD0⟩ := hv
  have hts := atoms_spec (ws := ws_ y b L ret) B.pre
  have hts : ∀ w ∈ lw_all, w.before _ s = true := fun w h => hts w (List.mem_cons_of_mem _ h)
  have hown : s.vm.findClass y.cls = some m.cls := findClass_of_methodNamed B.named
  subst hsz
  have hl := lv_entry av (n := L) hlen
  rw [lg_entry_eq]
  refine body (p, l, e, vRm dd, s, m, av.toArray, below, meth, c, 0, 0, _, vA ad n s.heap.size, D, L) ⟨B.exec, B.bytes, hml, rfl, hown, hts, hK, B.notSynchronized, ⟨Nat.zero_le _, Nat.zero_le _⟩, rfl, ?_⟩ ⟨B.returns, rfl, rfl, rfl⟩ s.heap [] hP (hD0.weaken (fun k q h _ => ?_)) va_S.rf _ hl
  · intro q sz h1 h2
    rcases h2 with h2 | h2
    · exact Or.inl h2
    · exact Or.inr (Nat.le_trans h1 h2)
  · exact Or.inl (hws k q h)
theorem vMl_of {S : Type} {l : Launch} {D : va_G} {tys : List (ClassId × FieldType)} {y : MethodName} {b : ByteArray} {L : Nat} {dd : Nat} {av : List Value} {ws : va_W} {ad : Nat → Nat} {n : Nat} {post : Int64 → S → Prop} {wf : S → va_W} (hy : plainName y.cls = true) (hlen : (lg_sl av).length ≤ L) (hws : ∀ (k : Nat) (q : Nat × va_E), ws[k]? = some q → ∃ j, j < n ∧ q.1 = ad j)
    (body : ∀ X : VX, vC X b y.cls L tys (vRm dd) ad n → vE X (some .long) (fun A => va_Ql post (vB X.D wf A) A) → vV X ws 0 (lv_args 0 av) []) : vMl l D tys y b L dd av ws ad n post wf := by
  intro sz
  refine Met.ofW (cc := b) (maxL := L) (ret := (some .long)) hy rfl ?_
  intro p e s m args below meth c s₁ B hml hv
  obtain ⟨rfl, hsz, hP, hK, hD0⟩ := hv
  have hts := atoms_spec (ws := ws_ y b L (some .long)) B.pre
  have hts : ∀ w ∈ lw_all, w.before _ s = true := fun w h => hts w (List.mem_cons_of_mem _ h)
  have hown : s.vm.findClass y.cls = some m.cls := findClass_of_methodNamed B.named
  subst hsz
  have hl := lv_entry av (n := L) hlen
  rw [lg_entry_eq]
  refine body (p, l, e, vRm dd, s, m, av.toArray, below, meth, c, 0, 0, _, vA ad n s.heap.size, D, L) ⟨B.exec, B.bytes, hml, rfl, hown, hts, hK, B.notSynchronized, ⟨Nat.zero_le _, Nat.zero_le _⟩, rfl, ?_⟩ ⟨B.returns, rfl, rfl, rfl⟩ s.heap [] hP (hD0.weaken (fun k q h _ => ?_)) va_S.rf _ hl
  · intro q sz h1 h2
    rcases h2 with h2 | h2
    · exact Or.inl h2
    · exact Or.inr (Nat.le_trans h1 h2)
  · exact Or.inl (hws k q h)
theorem vMv_of {S : Type} {l : Launch} {D : va_G} {tys : List (ClassId × FieldType)} {y : MethodName} {b : ByteArray} {L : Nat} {dd : Nat} {av : List Value} {ws : va_W} {ad : Nat → Nat} {n : Nat} {post : S → Prop} {wf : S → va_W} (hy : plainName y.cls = true) (hlen : (lg_sl av).length ≤ L) (hws : ∀ (k : Nat) (q : Nat × va_E), ws[k]? = some q → ∃ j, j < n ∧ q.1 = ad j)
    (body : ∀ X : VX, vC X b y.cls L tys (vRm dd) ad n → vE X none (fun A => va_Qv post (vB X.D wf A) A) → vV X ws 0 (lv_args 0 av) []) : vMv l D tys y b L dd av ws ad n post wf := by
  intro sz
  refine Met.ofW (cc := b) (maxL := L) (ret := none) hy rfl ?_
  intro p e s m args below meth c s₁ B hml hv
  obtain ⟨rfl, hsz, hP, hK, hD0⟩ := hv
  have hts := atoms_spec (ws := ws_ y b L none) B.pre
  have hts : ∀ w ∈ lw_all, w.before _ s = true := fun w h => hts w (List.mem_cons_of_mem _ h)
  have hown : s.vm.findClass y.cls = some m.cls := findClass_of_methodNamed B.named
  subst hsz
  have hl := lv_entry av (n := L) hlen
  rw [lg_entry_eq]
  refine body (p, l, e, vRm dd, s, m, av.toArray, below, meth, c, 0, 0, _, vA ad n s.heap.size, D, L) ⟨B.exec, B.bytes, hml, rfl, hown, hts, hK, B.notSynchronized, ⟨Nat.zero_le _, Nat.zero_le _⟩, rfl, ?_⟩ ⟨B.returns, rfl, rfl, rfl⟩ s.heap [] hP (hD0.weaken (fun k q h _ => ?_)) va_S.rf _ hl
  · intro q sz h1 h2
    rcases h2 with h2 | h2
    · exact Or.inl h2
    · exact Or.inr (Nat.le_trans h1 h2)
  · exact Or.inl (hws k q h)
theorem v_iret (C : vC X cc own nL tys R0 ad nA) {S : Type} {post : Int32 → S → Prop} {wf : S → va_W} (E : vE X (some .int) (fun A => va_Qi post (vB X.D wf A) A)) {r : Int32} (u : S) (hw : ws = wf u) (hp : post r u) (d : decode cc pc = .ok (.ireturn, 1)) : vV X ws pc lv [.int r] := by
  subst hw
  obtain ⟨p, l, e, R, s, m, ar, bl, mt, c, k, n, Q, A, D, L⟩ := X
  obtain ⟨hr, hk, hn, hQ⟩ := E
  replace hk : k = 0 := hk
  replace hn : n = 0 := hn
  replace hQ : Q = MQ bl (va_Qi post (vB D wf A) A) ar s 0 0 A := hQ
  subst hk; subst hn; subst hQ
  exact fun H locs hP hD hS ls hl => W.iret C.hx C.hb hr (fun t ht hW => ⟨⟨r, u, rfl, hp, by rw [ht]; exact hP, hD⟩, hS.F ht⟩) hS.2.2 d C.hlk
theorem v_lret (C : vC X cc own nL tys R0 ad nA) {S : Type} {post : Int64 → S → Prop} {wf : S → va_W} (E : vE X (some .long) (fun A => va_Ql post (vB X.D wf A) A)) {r : Int64} (u : S) (hw : ws = wf u) (hp : post r u) (d : decode cc pc = .ok (.lreturn, 1)) : vV X ws pc lv [.long r] := by
  subst hw
  obtain ⟨p, l, e, R, s, m, ar, bl, mt, c, k, n, Q, A, D, L⟩ := X
  obtain ⟨hr, hk, hn, hQ⟩ := E
  replace hk : k = 0 := hk
  replace hn : n = 0 := hn
  replace hQ : Q = MQ bl (va_Ql post (vB D wf A) A) ar s 0 0 A := hQ
  subst hk; subst hn; subst hQ
  exact fun H locs hP hD hS ls hl => W.lret C.hx C.hb hr (fun t ht hW => ⟨⟨r, u, rfl, hp, by rw [ht]; exact hP, hD⟩, hS.F ht⟩) hS.2.2 d C.hlk
theorem v_vret (C : vC X cc own nL tys R0 ad nA) {S : Type} {post : S → Prop} {wf : S → va_W} (E : vE X none (fun A => va_Qv post (vB X.D wf A) A)) (u : S) (hw : ws = wf u) (hp : post u) (d : decode cc pc = .ok (.return_, 1)) : vV X ws pc lv [] := by
  subst hw
  obtain ⟨p, l, e, R, s, m, ar, bl, mt, c, k, n, Q, A, D, L⟩ := X
  obtain ⟨hr, hk, hn, hQ⟩ := E
  replace hk : k = 0 := hk
  replace hn : n = 0 := hn
  replace hQ : Q = MQ bl (va_Qv post (vB D wf A) A) ar s 0 0 A := hQ
  subst hk; subst hn; subst hQ
  exact fun H locs hP hD hS ls hl => W.vret C.hx C.hb hr (fun t ht hW => ⟨⟨u, rfl, hp, by rw [ht]; exact hP, hD⟩, hS.F ht⟩) hS.2.2 d C.hlk
theorem v_zret (C : vC X cc own nL tys R0 ad nA) {S : Type} {post : Int32 → S → Prop} {wf : S → va_W} (E : vE X (some .boolean) (fun A => va_Qi post (vB X.D wf A) A)) {r : Bool} (u : S) (hw : ws = wf u) (hp : post (bI r) u) (d : decode cc pc = .ok (.ireturn, 1)) : vV X ws pc lv [.int (bI r)] := by
  subst hw
  obtain ⟨p, l, e, R, s, m, ar, bl, mt, c, k, n, Q, A, D, L⟩ := X
  obtain ⟨hr, hk, hn, hQ⟩ := E
  replace hk : k = 0 := hk
  replace hn : n = 0 := hn
  replace hQ : Q = MQ bl (va_Qi post (vB D wf A) A) ar s 0 0 A := hQ
  subst hk; subst hn; subst hQ
  exact fun H locs hP hD hS ls hl => W.zret C.hx C.hb hr (by cases r <;> decide) (fun t ht hW => ⟨⟨bI r, u, rfl, hp, by rw [ht]; exact hP, hD⟩, hS.F ht⟩) hS.2.2 d C.hlk
theorem v_calli (C : vC X cc own nL tys R0 ad nA) {S : Type} {post : Int32 → S → Prop} {wf : S → va_W} {y : MethodName} {b : ByteArray} {L : Nat} {ret : Option FieldType} {dd idx : Nat} {a : Nat} (As : List Value) (na : Nat) {rest : List Value} {Cn : String} (hM : vMi X.l X.D tys y b L ret dd (.ref a :: As) ws ad nA post wf) (hG : GoodIn lw_all (wsV own idx Cn y (ws_ y b L ret))) (hd : y.cls = Cn ∧ y.cls ≠ "java/lang/invoke/MethodHandle" ∧ y.cls ≠ "java/lang/invoke/VarHandle" ∧ (parseMethodDescriptor y.desc).map (fun d => d.parameters.length) = some na) (hR : dd + 1 ≤ R0.frames ∧ 8 + (L + 11) + 32 * dd ≤ R0.locals) {ci q0 : Nat} {fs : List Value} {T : u_T} {N : Nat} (hc : vwCl[ci]? = some (Cn, T, N)) (he : ws[q0]? = some (a, .inr (ci, fs))) (hna : As.length = na) (hst : st = As.reverse ++ .ref a :: rest) (hrm : (rest.map fun v => v.category).sum ≤ 8) (d : decode cc pc = .ok (.invokevirtual idx, 3))
    (K : ∀ r u, post r u → vV X (wf u) (pc + 3) lv (.int r :: rest)) : vV X ws pc lv st := by
  subst hst
  intro H locs hP hD hS ls hl
  refine va_calli (va_runV (As := As) (rest := rest) ⟨C.hx, C.hb, C.hm, C.ho, C.ht⟩ (hM H.size) (cwV na C.ht hG rfl rfl rfl hd (by rw [C.hR]; exact hR)) ⟨vPre_blind, va_recv C.hK hP hc he, fun U hU hW => ⟨rfl, by rw [hU], by rw [hU]; exact hP, va_K.moved hW.alike C.hK, hD.weaken (fun _ _ _ _ => trivial)⟩⟩ rfl hna hl.1 rfl (lv_room hrm) d C.hkn) hS (fun q _ h => C.hA q _ hS.1 h) (fun q h => C.hA q _ hS.1 h) (fun r u t H1 locs1 ht hvm hp hB hz hk hS1 => ?_)
  obtain ⟨hP1, hD1⟩ := hB
  rw [ht] at hP1
  exact K r u hp H1 locs1 hP1 (hD1.weaken (fun k q _ h => C.hA q.1 _ hS.1 h)) hS1 ls hl
theorem v_calll (C : vC X cc own nL tys R0 ad nA) {S : Type} {post : Int64 → S → Prop} {wf : S → va_W} {y : MethodName} {b : ByteArray} {L : Nat} {dd idx : Nat} {a : Nat} (As : List Value) (na : Nat) {rest : List Value} {Cn : String} (hM : vMl X.l X.D tys y b L dd (.ref a :: As) ws ad nA post wf) (hG : GoodIn lw_all (wsV own idx Cn y (ws_ y b L (some .long)))) (hd : y.cls = Cn ∧ y.cls ≠ "java/lang/invoke/MethodHandle" ∧ y.cls ≠ "java/lang/invoke/VarHandle" ∧ (parseMethodDescriptor y.desc).map (fun d => d.parameters.length) = some na) (hR : dd + 1 ≤ R0.frames ∧ 8 + (L + 11) + 32 * dd ≤ R0.locals) {ci q0 : Nat} {fs : List Value} {T : u_T} {N : Nat} (hc : vwCl[ci]? = some (Cn, T, N)) (he : ws[q0]? = some (a, .inr (ci, fs))) (hna : As.length = na) (hst : st = As.reverse ++ .ref a :: rest) (hrm : (rest.map fun v => v.category).sum ≤ 8) (d : decode cc pc = .ok (.invokevirtual idx, 3))
    (K : ∀ r u, post r u → vV X (wf u) (pc + 3) lv (.long r :: rest)) : vV X ws pc lv st := by
  subst hst
  intro H locs hP hD hS ls hl
  refine va_calll (va_runV (As := As) (rest := rest) ⟨C.hx, C.hb, C.hm, C.ho, C.ht⟩ (hM H.size) (cwV na C.ht hG rfl rfl rfl hd (by rw [C.hR]; exact hR)) ⟨vPre_blind, va_recv C.hK hP hc he, fun U hU hW => ⟨rfl, by rw [hU], by rw [hU]; exact hP, va_K.moved hW.alike C.hK, hD.weaken (fun _ _ _ _ => trivial)⟩⟩ rfl hna hl.1 rfl (lv_room hrm) d C.hkn) hS (fun q _ h => C.hA q _ hS.1 h) (fun q h => C.hA q _ hS.1 h) (fun r u t H1 locs1 ht hvm hp hB hz hk hS1 => ?_)
  obtain ⟨hP1, hD1⟩ := hB
  rw [ht] at hP1
  exact K r u hp H1 locs1 hP1 (hD1.weaken (fun k q _ h => C.hA q.1 _ hS.1 h)) hS1 ls hl
theorem v_callv (C : vC X cc own nL tys R0 ad nA) {S : Type} {post : S → Prop} {wf : S → va_W} {y : MethodName} {b : ByteArray} {L : Nat} {dd idx : Nat} {a : Nat} (As : List Value) (na : Nat) {rest : List Value} {Cn : String} (hM : vMv X.l X.D tys y b L dd (.ref a :: As) ws ad nA post wf) (hG : GoodIn lw_all (wsV own idx Cn y (ws_ y b L none))) (hd : y.cls = Cn ∧ y.cls ≠ "java/lang/invoke/MethodHandle" ∧ y.cls ≠ "java/lang/invoke/VarHandle" ∧ (parseMethodDescriptor y.desc).map (fun d => d.parameters.length) = some na) (hR : dd + 1 ≤ R0.frames ∧ 8 + (L + 11) + 32 * dd ≤ R0.locals) {ci q0 : Nat} {fs : List Value} {T : u_T} {N : Nat} (hc : vwCl[ci]? = some (Cn, T, N)) (he : ws[q0]? = some (a, .inr (ci, fs))) (hna : As.length = na) (hst : st = As.reverse ++ .ref a :: rest) (hrm : (rest.map fun v => v.category).sum ≤ 8) (d : decode cc pc = .ok (.invokevirtual idx, 3))
    (K : ∀ u, post u → vV X (wf u) (pc + 3) lv (rest)) : vV X ws pc lv st := by
  subst hst
  intro H locs hP hD hS ls hl
  refine va_callv (va_runV (As := As) (rest := rest) ⟨C.hx, C.hb, C.hm, C.ho, C.ht⟩ (hM H.size) (cwV na C.ht hG rfl rfl rfl hd (by rw [C.hR]; exact hR)) ⟨vPre_blind, va_recv C.hK hP hc he, fun U hU hW => ⟨rfl, by rw [hU], by rw [hU]; exact hP, va_K.moved hW.alike C.hK, hD.weaken (fun _ _ _ _ => trivial)⟩⟩ rfl hna hl.1 rfl (lv_room hrm) d C.hkn) hS (fun q _ h => C.hA q _ hS.1 h) (fun q h => C.hA q _ hS.1 h) (fun u t H1 locs1 ht hvm hp hB hz hk hS1 => ?_)
  obtain ⟨hP1, hD1⟩ := hB
  rw [ht] at hP1
  exact K u hp H1 locs1 hP1 (hD1.weaken (fun k q _ h => C.hA q.1 _ hS.1 h)) hS1 ls hl
theorem v_callSi (C : vC X cc own nL tys R0 ad nA) {S : Type} {post : Int32 → S → Prop} {wf : S → va_W} {y : MethodName} {b : ByteArray} {L : Nat} {ret : Option FieldType} {dd idx : Nat} (As : List Value) (na : Nat) {rest : List Value} (hM : vMi X.l X.D tys y b L ret dd As ws ad nA post wf) (hG : GoodIn lw_all (va_wsS own idx y (ws_ y b L ret))) (hd : y.cls ≠ "java/lang/invoke/MethodHandle" ∧ y.cls ≠ "java/lang/invoke/VarHandle" ∧ (parseMethodDescriptor y.desc).map (fun d => d.parameters.length) = some na) (hR : dd + 1 ≤ R0.frames ∧ 8 + (L + 11) + 32 * dd ≤ R0.locals) (hna : As.length = na) (hst : st = As.reverse ++ rest) (hrm : (rest.map fun v => v.category).sum ≤ 8) (d : decode cc pc = .ok (.invokestatic idx, 3))
    (K : ∀ r u, post r u → vV X (wf u) (pc + 3) lv (.int r :: rest)) : vV X ws pc lv st := by
  subst hst
  intro H locs hP hD hS ls hl
  refine va_calli (va_runS (As := As) (rest := rest) ⟨C.hx, C.hb, C.hm, C.ho, C.ht⟩ (hM H.size) (va_cwS na C.ht hG rfl rfl rfl hd (by rw [C.hR]; exact hR)) ⟨vPre_blind, fun U hU hW => ⟨rfl, by rw [hU], by rw [hU]; exact hP, va_K.moved hW.alike C.hK, hD.weaken (fun _ _ _ _ => trivial)⟩⟩ rfl hna hl.1 rfl (lv_room hrm) d C.hkn) hS (fun q _ h => C.hA q _ hS.1 h) (fun q h => C.hA q _ hS.1 h) (fun r u t H1 locs1 ht hvm hp hB hz hk hS1 => ?_)
  obtain ⟨hP1, hD1⟩ := hB
  rw [ht] at hP1
  exact K r u hp H1 locs1 hP1 (hD1.weaken (fun k q _ h => C.hA q.1 _ hS.1 h)) hS1 ls hl
end VJ
end
section
set_option maxRecDepth 100000
section ST
abbrev XS : Type := ((Nat) × (Nat) × (Nat → Int64) × (Nat → Int64)) × ((Nat) × (Nat → Int64) × (Nat → Int64) × (Nat → Bool)) × ((Nat) × (Nat → Int64) × (Nat → Int64) × (Nat → Bool)) × ((Nat) × (Nat → Int64) × (Nat → Int32) × (Nat → Int32)) × ((Nat) × (Nat → Nat) × (Nat) × (Nat → Int32) × (Nat → Nat))
abbrev XS.tok (σ : XS) : Nat := σ.1.1
abbrev XS.pl (σ : XS) : Nat := σ.1.2.1
abbrev XS.fol (σ : XS) : Nat → Int64 := σ.1.2.2.1
abbrev XS.lp (σ : XS) : Nat → Int64 := σ.1.2.2.2
abbrev XS.stk (σ : XS) : Nat := σ.2.1.1
abbrev XS.fi (σ : XS) : Nat → Int64 := σ.2.1.2.1
abbrev XS.la (σ : XS) : Nat → Int64 := σ.2.1.2.2.1
abbrev XS.em (σ : XS) : Nat → Bool := σ.2.1.2.2.2
abbrev XS.rul (σ : XS) : Nat := σ.2.2.1.1
abbrev XS.rf (σ : XS) : Nat → Int64 := σ.2.2.1.2.1
abbrev XS.rl (σ : XS) : Nat → Int64 := σ.2.2.1.2.2.1
abbrev XS.re (σ : XS) : Nat → Bool := σ.2.2.1.2.2.2
abbrev XS.sts (σ : XS) : Nat := σ.2.2.2.1.1
abbrev XS.sset (σ : XS) : Nat → Int64 := σ.2.2.2.1.2.1
abbrev XS.nxt (σ : XS) : Nat → Int32 := σ.2.2.2.1.2.2.1
abbrev XS.ends (σ : XS) : Nat → Int32 := σ.2.2.2.1.2.2.2
abbrev XS.tl (σ : XS) : Nat := σ.2.2.2.2.1
abbrev XS.txt (σ : XS) : Nat → Nat := σ.2.2.2.2.2.1
abbrev XS.wc (σ : XS) : Nat := σ.2.2.2.2.2.2.1
abbrev XS.wso (σ : XS) : Nat → Int32 := σ.2.2.2.2.2.2.2.1
abbrev XS.wle (σ : XS) : Nat → Nat := σ.2.2.2.2.2.2.2.2
abbrev xs_tok (σ : XS) (v : Nat) : XS := ((v, σ.1.2), σ.2)
abbrev xs_pl (σ : XS) (v : Nat) : XS := ((σ.1.1, v, σ.1.2.2), σ.2)
abbrev xs_fol (σ : XS) (v : Nat → Int64) : XS := ((σ.1.1, σ.1.2.1, v, σ.1.2.2.2), σ.2)
abbrev xs_lp (σ : XS) (v : Nat → Int64) : XS := ((σ.1.1, σ.1.2.1, σ.1.2.2.1, v), σ.2)
abbrev xs_stk (σ : XS) (v : Nat) : XS := (σ.1, (v, σ.2.1.2), σ.2.2)
abbrev xs_fi (σ : XS) (v : Nat → Int64) : XS := (σ.1, (σ.2.1.1, v, σ.2.1.2.2), σ.2.2)
abbrev xs_la (σ : XS) (v : Nat → Int64) : XS := (σ.1, (σ.2.1.1, σ.2.1.2.1, v, σ.2.1.2.2.2), σ.2.2)
abbrev xs_em (σ : XS) (v : Nat → Bool) : XS := (σ.1, (σ.2.1.1, σ.2.1.2.1, σ.2.1.2.2.1, v), σ.2.2)
abbrev xs_rul (σ : XS) (v : Nat) : XS := (σ.1, σ.2.1, (v, σ.2.2.1.2), σ.2.2.2)
abbrev xs_rf (σ : XS) (v : Nat → Int64) : XS := (σ.1, σ.2.1, (σ.2.2.1.1, v, σ.2.2.1.2.2), σ.2.2.2)
abbrev xs_rl (σ : XS) (v : Nat → Int64) : XS := (σ.1, σ.2.1, (σ.2.2.1.1, σ.2.2.1.2.1, v, σ.2.2.1.2.2.2), σ.2.2.2)
abbrev xs_re (σ : XS) (v : Nat → Bool) : XS := (σ.1, σ.2.1, (σ.2.2.1.1, σ.2.2.1.2.1, σ.2.2.1.2.2.1, v), σ.2.2.2)
abbrev xs_sts (σ : XS) (v : Nat) : XS := (σ.1, σ.2.1, σ.2.2.1, (v, σ.2.2.2.1.2), σ.2.2.2.2)
abbrev xs_sset (σ : XS) (v : Nat → Int64) : XS := (σ.1, σ.2.1, σ.2.2.1, (σ.2.2.2.1.1, v, σ.2.2.2.1.2.2), σ.2.2.2.2)
abbrev xs_nxt (σ : XS) (v : Nat → Int32) : XS := (σ.1, σ.2.1, σ.2.2.1, (σ.2.2.2.1.1, σ.2.2.2.1.2.1, v, σ.2.2.2.1.2.2.2), σ.2.2.2.2)
abbrev xs_ends (σ : XS) (v : Nat → Int32) : XS := (σ.1, σ.2.1, σ.2.2.1, (σ.2.2.2.1.1, σ.2.2.2.1.2.1, σ.2.2.2.1.2.2.1, v), σ.2.2.2.2)
abbrev xs_tl (σ : XS) (v : Nat) : XS := (σ.1, σ.2.1, σ.2.2.1, σ.2.2.2.1, (v, σ.2.2.2.2.2))
abbrev xs_txt (σ : XS) (v : Nat → Nat) : XS := (σ.1, σ.2.1, σ.2.2.1, σ.2.2.2.1, (σ.2.2.2.2.1, v, σ.2.2.2.2.2.2))
abbrev xs_wc (σ : XS) (v : Nat) : XS := (σ.1, σ.2.1, σ.2.2.1, σ.2.2.2.1, (σ.2.2.2.2.1, σ.2.2.2.2.2.1, v, σ.2.2.2.2.2.2.2))
abbrev xs_wso (σ : XS) (v : Nat → Int32) : XS := (σ.1, σ.2.1, σ.2.2.1, σ.2.2.2.1, (σ.2.2.2.2.1, σ.2.2.2.2.2.1, σ.2.2.2.2.2.2.1, v, σ.2.2.2.2.2.2.2.2))
abbrev xs_wle (σ : XS) (v : Nat → Nat) : XS := (σ.1, σ.2.1, σ.2.2.1, σ.2.2.2.1, (σ.2.2.2.2.1, σ.2.2.2.2.2.1, σ.2.2.2.2.2.2.1, σ.2.2.2.2.2.2.2.1, v))
/-- the cells of an object of the class, with the arrays that are its own -/
def xW (ad : Nat → Nat) (ci cj cz : ClassId) (σ : XS) : va_W := [(ad 0, .inr (0, [.int (nI σ.tok), .int (nI σ.pl), .ref (ad 1), .ref (ad 2), .int (nI σ.stk), .ref (ad 3), .ref (ad 4), .ref (ad 5), .int (nI σ.rul), .ref (ad 6), .ref (ad 7), .ref (ad 8), .int (nI σ.sts), .ref (ad 9), .ref (ad 10), .ref (ad 11), .int (nI σ.tl), .ref (ad 12), .int (nI σ.wc), .ref (ad 13), .ref (ad 14)])), (ad 1, .inl (cj, 40, .inr (.inl σ.fol))), (ad 2, .inl (cj, 4, .inr (.inl σ.lp))), (ad 3, .inl (cj, 40, .inr (.inl σ.fi))), (ad 4, .inl (cj, 40, .inr (.inl σ.la))), (ad 5, .inl (cz, 40, .inl (fun j => bI (σ.em j)))), (ad 6, .inl (cj, 5, .inr (.inl σ.rf))), (ad 7, .inl (cj, 5, .inr (.inl σ.rl))), (ad 8, .inl (cz, 5, .inl (fun j => bI (σ.re j)))), (ad 9, .inl (cj, 48, .inr (.inl σ.sset))), (ad 10, .inl (ci, 192, .inl σ.nxt)), (ad 11, .inl (ci, 48, .inl σ.ends)), (ad 12, .inl (ci, 30, .inl (fun j => nI (σ.txt j)))), (ad 13, .inl (ci, 30, .inl σ.wso)), (ad 14, .inl (ci, 30, .inl (fun j => nI (σ.wle j))))]
theorem xW_at {ad : Nat → Nat} {ci cj cz : ClassId} {σ : XS} : ∀ (k : Nat) (q : Nat × va_E), (xW ad ci cj cz σ)[k]? = some q → ∃ j, j < 15 ∧ q.1 = ad j := by
  intro k q h
  match k, h with
  | 0, h => cases h; exact ⟨0, by decide, rfl⟩
  | 1, h => cases h; exact ⟨1, by decide, rfl⟩
  | 2, h => cases h; exact ⟨2, by decide, rfl⟩
  | 3, h => cases h; exact ⟨3, by decide, rfl⟩
  | 4, h => cases h; exact ⟨4, by decide, rfl⟩
  | 5, h => cases h; exact ⟨5, by decide, rfl⟩
  | 6, h => cases h; exact ⟨6, by decide, rfl⟩
  | 7, h => cases h; exact ⟨7, by decide, rfl⟩
  | 8, h => cases h; exact ⟨8, by decide, rfl⟩
  | 9, h => cases h; exact ⟨9, by decide, rfl⟩
  | 10, h => cases h; exact ⟨10, by decide, rfl⟩
  | 11, h => cases h; exact ⟨11, by decide, rfl⟩
  | 12, h => cases h; exact ⟨12, by decide, rfl⟩
  | 13, h => cases h; exact ⟨13, by decide, rfl⟩
  | 14, h => cases h; exact ⟨14, by decide, rfl⟩
  | k + 15, h => exact absurd h (by simp [xW])
theorem xW_has {ad : Nat → Nat} {ci cj cz : ClassId} {σ : XS} : ∀ j, j < 15 → ∃ e, (xW ad ci cj cz σ)[j]? = some (ad j, e) := by
  intro j h
  match j, h with
  | 0, _ => exact ⟨_, rfl⟩
  | 1, _ => exact ⟨_, rfl⟩
  | 2, _ => exact ⟨_, rfl⟩
  | 3, _ => exact ⟨_, rfl⟩
  | 4, _ => exact ⟨_, rfl⟩
  | 5, _ => exact ⟨_, rfl⟩
  | 6, _ => exact ⟨_, rfl⟩
  | 7, _ => exact ⟨_, rfl⟩
  | 8, _ => exact ⟨_, rfl⟩
  | 9, _ => exact ⟨_, rfl⟩
  | 10, _ => exact ⟨_, rfl⟩
  | 11, _ => exact ⟨_, rfl⟩
  | 12, _ => exact ⟨_, rfl⟩
  | 13, _ => exact ⟨_, rfl⟩
  | 14, _ => exact ⟨_, rfl⟩
  | k + 15, h => exact absurd h (by omega)
variable {X : VX} {cc : ByteArray} {nL : Nat} {R0 : Room} {ad : Nat → Nat} {ci cj cz : ClassId} {pc : Nat} {lv : List (Nat × Value)} {st : List Value} {σ : XS}
def upN (f : Nat → Nat) (k x : Nat) : Nat → Nat := fun j => if j = k then x else f j
def upB (f : Nat → Bool) (k : Nat) (x : Bool) : Nat → Bool := fun j => if j = k then x else f j
theorem upd_nI (f : Nat → Nat) (k x : Nat) : upd (fun j => nI (f j)) k (nI x) = fun j => nI (upN f k x j) := by
  funext j; unfold upd upN; split <;> rfl
theorem upd_bI (f : Nat → Bool) (k : Nat) (x : Bool) : upd (fun j => bI (f j)) k (bI x) = fun j => bI (upB f k x j) := by
  funext j; unfold upd upB; split <;> rfl
theorem upN_s {f : Nat → Nat} {k x : Nat} : upN f k x k = x := if_pos rfl
theorem upN_n {f : Nat → Nat} {k x j : Nat} (h : j ≠ k) : upN f k x j = f j := if_neg h
theorem upB_s {f : Nat → Bool} {k : Nat} {x : Bool} : upB f k x k = x := if_pos rfl
theorem upB_n {f : Nat → Bool} {k j : Nat} {x : Bool} (h : j ≠ k) : upB f k x j = f j := if_neg h
theorem gxs_tok (C : vC X cc RX0 nL (vTy ci cj cz) R0 ad 15) {v : Nat} (hv : σ.tok = v) (d : decode cc pc = .ok (.getfield 61, 3)) (K : vV X (xW ad ci cj cz σ) (pc + 3) lv (.int (nI v) :: st)) : vV X (xW ad ci cj cz σ) pc lv (.ref (ad 0) :: st) := by
  subst hv
  exact v_get C in_X0 0 rfl rfl 0 (by decide) q37 rfl rfl d K
theorem pxs_tok (C : vC X cc RX0 nL (vTy ci cj cz) R0 ad 15) {v : Nat} (d : decode cc pc = .ok (.putfield 61, 3)) (K : vV X (xW ad ci cj cz (xs_tok σ v)) (pc + 3) lv st) : vV X (xW ad ci cj cz σ) pc lv (.int (nI v) :: .ref (ad 0) :: st) := by
  exact v_put (ws' := xW ad ci cj cz (xs_tok σ v)) C in_X0 tyX0_ok nmX0 0 rfl rfl 0 (by decide) q37 rfl rfl (ty := .int) (by decide +kernel) rfl rfl (Nat.le_of_ble_eq_true rfl) rfl d K
theorem gxs_pl (C : vC X cc RX0 nL (vTy ci cj cz) R0 ad 15) {v : Nat} (hv : σ.pl = v) (d : decode cc pc = .ok (.getfield 85, 3)) (K : vV X (xW ad ci cj cz σ) (pc + 3) lv (.int (nI v) :: st)) : vV X (xW ad ci cj cz σ) pc lv (.ref (ad 0) :: st) := by
  subst hv
  exact v_get C in_X0 0 rfl rfl 1 (by decide) q38 rfl rfl d K
theorem pxs_pl (C : vC X cc RX0 nL (vTy ci cj cz) R0 ad 15) {v : Nat} (d : decode cc pc = .ok (.putfield 85, 3)) (K : vV X (xW ad ci cj cz (xs_pl σ v)) (pc + 3) lv st) : vV X (xW ad ci cj cz σ) pc lv (.int (nI v) :: .ref (ad 0) :: st) := by
  exact v_put (ws' := xW ad ci cj cz (xs_pl σ v)) C in_X0 tyX0_ok nmX0 0 rfl rfl 1 (by decide) q38 rfl rfl (ty := .int) (by decide +kernel) rfl rfl (Nat.le_of_ble_eq_true rfl) rfl d K
theorem gxs_fol (C : vC X cc RX0 nL (vTy ci cj cz) R0 ad 15) (d : decode cc pc = .ok (.getfield 7, 3)) (K : vV X (xW ad ci cj cz σ) (pc + 3) lv (.ref (ad 1) :: st)) : vV X (xW ad ci cj cz σ) pc lv (.ref (ad 0) :: st) := by
  exact v_get C in_X0 0 rfl rfl 2 (by decide) q39 rfl rfl d K
theorem lxs_fol (C : vC X cc RX0 nL (vTy ci cj cz) R0 ad 15) {j : Nat} {v : Int64} (hv : σ.fol j = v) (hj : j < 40) (d : decode cc pc = .ok (.laload, 1)) (K : vV X (xW ad ci cj cz σ) (pc + 1) lv (.long v :: st)) : vV X (xW ad ci cj cz σ) pc lv (.int (nI j) :: .ref (ad 1) :: st) := by
  subst hv
  exact v_lald C 1 1 rfl rfl (by decide) hj d K
theorem sxs_fol (C : vC X cc RX0 nL (vTy ci cj cz) R0 ad 15) {j : Nat} {x : Int64} (hj : j < 40) (d : decode cc pc = .ok (.lastore, 1)) (K : vV X (xW ad ci cj cz (xs_fol σ (vp_updL σ.fol j x))) (pc + 1) lv st) : vV X (xW ad ci cj cz σ) pc lv (.long x :: .int (nI j) :: .ref (ad 1) :: st) := by
  exact v_last C 1 1 rfl rfl (by decide) hj rfl d K
theorem gxs_lp (C : vC X cc RX0 nL (vTy ci cj cz) R0 ad 15) (d : decode cc pc = .ok (.getfield 13, 3)) (K : vV X (xW ad ci cj cz σ) (pc + 3) lv (.ref (ad 2) :: st)) : vV X (xW ad ci cj cz σ) pc lv (.ref (ad 0) :: st) := by
  exact v_get C in_X0 0 rfl rfl 3 (by decide) q40 rfl rfl d K
theorem lxs_lp (C : vC X cc RX0 nL (vTy ci cj cz) R0 ad 15) {j : Nat} {v : Int64} (hv : σ.lp j = v) (hj : j < 4) (d : decode cc pc = .ok (.laload, 1)) (K : vV X (xW ad ci cj cz σ) (pc + 1) lv (.long v :: st)) : vV X (xW ad ci cj cz σ) pc lv (.int (nI j) :: .ref (ad 2) :: st) := by
  subst hv
  exact v_lald C 2 1 rfl rfl (by decide) hj d K
theorem sxs_lp (C : vC X cc RX0 nL (vTy ci cj cz) R0 ad 15) {j : Nat} {x : Int64} (hj : j < 4) (d : decode cc pc = .ok (.lastore, 1)) (K : vV X (xW ad ci cj cz (xs_lp σ (vp_updL σ.lp j x))) (pc + 1) lv st) : vV X (xW ad ci cj cz σ) pc lv (.long x :: .int (nI j) :: .ref (ad 2) :: st) := by
  exact v_last C 2 1 rfl rfl (by decide) hj rfl d K
theorem gxs_stk (C : vC X cc RX0 nL (vTy ci cj cz) R0 ad 15) {v : Nat} (hv : σ.stk = v) (d : decode cc pc = .ok (.getfield 57, 3)) (K : vV X (xW ad ci cj cz σ) (pc + 3) lv (.int (nI v) :: st)) : vV X (xW ad ci cj cz σ) pc lv (.ref (ad 0) :: st) := by
  subst hv
  exact v_get C in_X0 0 rfl rfl 4 (by decide) q41 rfl rfl d K
theorem pxs_stk (C : vC X cc RX0 nL (vTy ci cj cz) R0 ad 15) {v : Nat} (d : decode cc pc = .ok (.putfield 57, 3)) (K : vV X (xW ad ci cj cz (xs_stk σ v)) (pc + 3) lv st) : vV X (xW ad ci cj cz σ) pc lv (.int (nI v) :: .ref (ad 0) :: st) := by
  exact v_put (ws' := xW ad ci cj cz (xs_stk σ v)) C in_X0 tyX0_ok nmX0 0 rfl rfl 4 (by decide) q41 rfl rfl (ty := .int) (by decide +kernel) rfl rfl (Nat.le_of_ble_eq_true rfl) rfl d K
theorem gxs_fi (C : vC X cc RX0 nL (vTy ci cj cz) R0 ad 15) (d : decode cc pc = .ok (.getfield 16, 3)) (K : vV X (xW ad ci cj cz σ) (pc + 3) lv (.ref (ad 3) :: st)) : vV X (xW ad ci cj cz σ) pc lv (.ref (ad 0) :: st) := by
  exact v_get C in_X0 0 rfl rfl 5 (by decide) q42 rfl rfl d K
theorem lxs_fi (C : vC X cc RX0 nL (vTy ci cj cz) R0 ad 15) {j : Nat} {v : Int64} (hv : σ.fi j = v) (hj : j < 40) (d : decode cc pc = .ok (.laload, 1)) (K : vV X (xW ad ci cj cz σ) (pc + 1) lv (.long v :: st)) : vV X (xW ad ci cj cz σ) pc lv (.int (nI j) :: .ref (ad 3) :: st) := by
  subst hv
  exact v_lald C 3 1 rfl rfl (by decide) hj d K
theorem sxs_fi (C : vC X cc RX0 nL (vTy ci cj cz) R0 ad 15) {j : Nat} {x : Int64} (hj : j < 40) (d : decode cc pc = .ok (.lastore, 1)) (K : vV X (xW ad ci cj cz (xs_fi σ (vp_updL σ.fi j x))) (pc + 1) lv st) : vV X (xW ad ci cj cz σ) pc lv (.long x :: .int (nI j) :: .ref (ad 3) :: st) := by
  exact v_last C 3 1 rfl rfl (by decide) hj rfl d K
theorem gxs_la (C : vC X cc RX0 nL (vTy ci cj cz) R0 ad 15) (d : decode cc pc = .ok (.getfield 19, 3)) (K : vV X (xW ad ci cj cz σ) (pc + 3) lv (.ref (ad 4) :: st)) : vV X (xW ad ci cj cz σ) pc lv (.ref (ad 0) :: st) := by
  exact v_get C in_X0 0 rfl rfl 6 (by decide) q43 rfl rfl d K
theorem lxs_la (C : vC X cc RX0 nL (vTy ci cj cz) R0 ad 15) {j : Nat} {v : Int64} (hv : σ.la j = v) (hj : j < 40) (d : decode cc pc = .ok (.laload, 1)) (K : vV X (xW ad ci cj cz σ) (pc + 1) lv (.long v :: st)) : vV X (xW ad ci cj cz σ) pc lv (.int (nI j) :: .ref (ad 4) :: st) := by
  subst hv
  exact v_lald C 4 1 rfl rfl (by decide) hj d K
theorem sxs_la (C : vC X cc RX0 nL (vTy ci cj cz) R0 ad 15) {j : Nat} {x : Int64} (hj : j < 40) (d : decode cc pc = .ok (.lastore, 1)) (K : vV X (xW ad ci cj cz (xs_la σ (vp_updL σ.la j x))) (pc + 1) lv st) : vV X (xW ad ci cj cz σ) pc lv (.long x :: .int (nI j) :: .ref (ad 4) :: st) := by
  exact v_last C 4 1 rfl rfl (by decide) hj rfl d K
theorem gxs_em (C : vC X cc RX0 nL (vTy ci cj cz) R0 ad 15) (d : decode cc pc = .ok (.getfield 22, 3)) (K : vV X (xW ad ci cj cz σ) (pc + 3) lv (.ref (ad 5) :: st)) : vV X (xW ad ci cj cz σ) pc lv (.ref (ad 0) :: st) := by
  exact v_get C in_X0 0 rfl rfl 7 (by decide) q44 rfl rfl d K
theorem lxs_em (C : vC X cc RX0 nL (vTy ci cj cz) R0 ad 15) {j : Nat} {v : Bool} (hv : σ.em j = v) (hj : j < 40) (d : decode cc pc = .ok (.baload, 1)) (K : vV X (xW ad ci cj cz σ) (pc + 1) lv (.int (bI v) :: st)) : vV X (xW ad ci cj cz σ) pc lv (.int (nI j) :: .ref (ad 5) :: st) := by
  subst hv
  exact v_zald (f := fun j => bI (σ.em j)) C 5 2 rfl rfl (by decide) hj d K
theorem sxs_em (C : vC X cc RX0 nL (vTy ci cj cz) R0 ad 15) {j : Nat} {x : Bool} (hj : j < 40) (d : decode cc pc = .ok (.bastore, 1)) (K : vV X (xW ad ci cj cz (xs_em σ (upB σ.em j x))) (pc + 1) lv st) : vV X (xW ad ci cj cz σ) pc lv (.int (bI x) :: .int (nI j) :: .ref (ad 5) :: st) := by
  refine v_zast (f := fun j => bI (σ.em j)) C 5 2 rfl rfl (by decide) hj ?_ d K
  rw [upd_bI]; rfl
theorem gxs_rul (C : vC X cc RX0 nL (vTy ci cj cz) R0 ad 15) {v : Nat} (hv : σ.rul = v) (d : decode cc pc = .ok (.getfield 64, 3)) (K : vV X (xW ad ci cj cz σ) (pc + 3) lv (.int (nI v) :: st)) : vV X (xW ad ci cj cz σ) pc lv (.ref (ad 0) :: st) := by
  subst hv
  exact v_get C in_X0 0 rfl rfl 8 (by decide) q45 rfl rfl d K
theorem pxs_rul (C : vC X cc RX0 nL (vTy ci cj cz) R0 ad 15) {v : Nat} (d : decode cc pc = .ok (.putfield 64, 3)) (K : vV X (xW ad ci cj cz (xs_rul σ v)) (pc + 3) lv st) : vV X (xW ad ci cj cz σ) pc lv (.int (nI v) :: .ref (ad 0) :: st) := by
  exact v_put (ws' := xW ad ci cj cz (xs_rul σ v)) C in_X0 tyX0_ok nmX0 0 rfl rfl 8 (by decide) q45 rfl rfl (ty := .int) (by decide +kernel) rfl rfl (Nat.le_of_ble_eq_true rfl) rfl d K
theorem gxs_rf (C : vC X cc RX0 nL (vTy ci cj cz) R0 ad 15) (d : decode cc pc = .ok (.getfield 26, 3)) (K : vV X (xW ad ci cj cz σ) (pc + 3) lv (.ref (ad 6) :: st)) : vV X (xW ad ci cj cz σ) pc lv (.ref (ad 0) :: st) := by
  exact v_get C in_X0 0 rfl rfl 9 (by decide) q46 rfl rfl d K
theorem lxs_rf (C : vC X cc RX0 nL (vTy ci cj cz) R0 ad 15) {j : Nat} {v : Int64} (hv : σ.rf j = v) (hj : j < 5) (d : decode cc pc = .ok (.laload, 1)) (K : vV X (xW ad ci cj cz σ) (pc + 1) lv (.long v :: st)) : vV X (xW ad ci cj cz σ) pc lv (.int (nI j) :: .ref (ad 6) :: st) := by
  subst hv
  exact v_lald C 6 1 rfl rfl (by decide) hj d K
theorem sxs_rf (C : vC X cc RX0 nL (vTy ci cj cz) R0 ad 15) {j : Nat} {x : Int64} (hj : j < 5) (d : decode cc pc = .ok (.lastore, 1)) (K : vV X (xW ad ci cj cz (xs_rf σ (vp_updL σ.rf j x))) (pc + 1) lv st) : vV X (xW ad ci cj cz σ) pc lv (.long x :: .int (nI j) :: .ref (ad 6) :: st) := by
  exact v_last C 6 1 rfl rfl (by decide) hj rfl d K
theorem gxs_rl (C : vC X cc RX0 nL (vTy ci cj cz) R0 ad 15) (d : decode cc pc = .ok (.getfield 29, 3)) (K : vV X (xW ad ci cj cz σ) (pc + 3) lv (.ref (ad 7) :: st)) : vV X (xW ad ci cj cz σ) pc lv (.ref (ad 0) :: st) := by
  exact v_get C in_X0 0 rfl rfl 10 (by decide) q47 rfl rfl d K
theorem lxs_rl (C : vC X cc RX0 nL (vTy ci cj cz) R0 ad 15) {j : Nat} {v : Int64} (hv : σ.rl j = v) (hj : j < 5) (d : decode cc pc = .ok (.laload, 1)) (K : vV X (xW ad ci cj cz σ) (pc + 1) lv (.long v :: st)) : vV X (xW ad ci cj cz σ) pc lv (.int (nI j) :: .ref (ad 7) :: st) := by
  subst hv
  exact v_lald C 7 1 rfl rfl (by decide) hj d K
theorem sxs_rl (C : vC X cc RX0 nL (vTy ci cj cz) R0 ad 15) {j : Nat} {x : Int64} (hj : j < 5) (d : decode cc pc = .ok (.lastore, 1)) (K : vV X (xW ad ci cj cz (xs_rl σ (vp_updL σ.rl j x))) (pc + 1) lv st) : vV X (xW ad ci cj cz σ) pc lv (.long x :: .int (nI j) :: .ref (ad 7) :: st) := by
  exact v_last C 7 1 rfl rfl (by decide) hj rfl d K
theorem gxs_re (C : vC X cc RX0 nL (vTy ci cj cz) R0 ad 15) (d : decode cc pc = .ok (.getfield 32, 3)) (K : vV X (xW ad ci cj cz σ) (pc + 3) lv (.ref (ad 8) :: st)) : vV X (xW ad ci cj cz σ) pc lv (.ref (ad 0) :: st) := by
  exact v_get C in_X0 0 rfl rfl 11 (by decide) q48 rfl rfl d K
theorem lxs_re (C : vC X cc RX0 nL (vTy ci cj cz) R0 ad 15) {j : Nat} {v : Bool} (hv : σ.re j = v) (hj : j < 5) (d : decode cc pc = .ok (.baload, 1)) (K : vV X (xW ad ci cj cz σ) (pc + 1) lv (.int (bI v) :: st)) : vV X (xW ad ci cj cz σ) pc lv (.int (nI j) :: .ref (ad 8) :: st) := by
  subst hv
  exact v_zald (f := fun j => bI (σ.re j)) C 8 2 rfl rfl (by decide) hj d K
theorem sxs_re (C : vC X cc RX0 nL (vTy ci cj cz) R0 ad 15) {j : Nat} {x : Bool} (hj : j < 5) (d : decode cc pc = .ok (.bastore, 1)) (K : vV X (xW ad ci cj cz (xs_re σ (upB σ.re j x))) (pc + 1) lv st) : vV X (xW ad ci cj cz σ) pc lv (.int (bI x) :: .int (nI j) :: .ref (ad 8) :: st) := by
  refine v_zast (f := fun j => bI (σ.re j)) C 8 2 rfl rfl (by decide) hj ?_ d K
  rw [upd_bI]; rfl
theorem gxs_sts (C : vC X cc RX0 nL (vTy ci cj cz) R0 ad 15) {v : Nat} (hv : σ.sts = v) (d : decode cc pc = .ok (.getfield 109, 3)) (K : vV X (xW ad ci cj cz σ) (pc + 3) lv (.int (nI v) :: st)) : vV X (xW ad ci cj cz σ) pc lv (.ref (ad 0) :: st) := by
  subst hv
  exact v_get C in_X0 0 rfl rfl 12 (by decide) q49 rfl rfl d K
theorem pxs_sts (C : vC X cc RX0 nL (vTy ci cj cz) R0 ad 15) {v : Nat} (d : decode cc pc = .ok (.putfield 109, 3)) (K : vV X (xW ad ci cj cz (xs_sts σ v)) (pc + 3) lv st) : vV X (xW ad ci cj cz σ) pc lv (.int (nI v) :: .ref (ad 0) :: st) := by
  exact v_put (ws' := xW ad ci cj cz (xs_sts σ v)) C in_X0 tyX0_ok nmX0 0 rfl rfl 12 (by decide) q49 rfl rfl (ty := .int) (by decide +kernel) rfl rfl (Nat.le_of_ble_eq_true rfl) rfl d K
theorem gxs_sset (C : vC X cc RX0 nL (vTy ci cj cz) R0 ad 15) (d : decode cc pc = .ok (.getfield 35, 3)) (K : vV X (xW ad ci cj cz σ) (pc + 3) lv (.ref (ad 9) :: st)) : vV X (xW ad ci cj cz σ) pc lv (.ref (ad 0) :: st) := by
  exact v_get C in_X0 0 rfl rfl 13 (by decide) q50 rfl rfl d K
theorem lxs_sset (C : vC X cc RX0 nL (vTy ci cj cz) R0 ad 15) {j : Nat} {v : Int64} (hv : σ.sset j = v) (hj : j < 48) (d : decode cc pc = .ok (.laload, 1)) (K : vV X (xW ad ci cj cz σ) (pc + 1) lv (.long v :: st)) : vV X (xW ad ci cj cz σ) pc lv (.int (nI j) :: .ref (ad 9) :: st) := by
  subst hv
  exact v_lald C 9 1 rfl rfl (by decide) hj d K
theorem sxs_sset (C : vC X cc RX0 nL (vTy ci cj cz) R0 ad 15) {j : Nat} {x : Int64} (hj : j < 48) (d : decode cc pc = .ok (.lastore, 1)) (K : vV X (xW ad ci cj cz (xs_sset σ (vp_updL σ.sset j x))) (pc + 1) lv st) : vV X (xW ad ci cj cz σ) pc lv (.long x :: .int (nI j) :: .ref (ad 9) :: st) := by
  exact v_last C 9 1 rfl rfl (by decide) hj rfl d K
theorem gxs_nxt (C : vC X cc RX0 nL (vTy ci cj cz) R0 ad 15) (d : decode cc pc = .ok (.getfield 38, 3)) (K : vV X (xW ad ci cj cz σ) (pc + 3) lv (.ref (ad 10) :: st)) : vV X (xW ad ci cj cz σ) pc lv (.ref (ad 0) :: st) := by
  exact v_get C in_X0 0 rfl rfl 14 (by decide) q51 rfl rfl d K
theorem lxs_nxt (C : vC X cc RX0 nL (vTy ci cj cz) R0 ad 15) {j : Nat} {v : Int32} (hv : σ.nxt j = v) (hj : j < 192) (d : decode cc pc = .ok (.iaload, 1)) (K : vV X (xW ad ci cj cz σ) (pc + 1) lv (.int v :: st)) : vV X (xW ad ci cj cz σ) pc lv (.int (nI j) :: .ref (ad 10) :: st) := by
  subst hv
  exact v_iald C 10 0 rfl rfl (by decide) hj d K
theorem sxs_nxt (C : vC X cc RX0 nL (vTy ci cj cz) R0 ad 15) {j : Nat} {x : Int32} (hj : j < 192) (d : decode cc pc = .ok (.iastore, 1)) (K : vV X (xW ad ci cj cz (xs_nxt σ (upd σ.nxt j x))) (pc + 1) lv st) : vV X (xW ad ci cj cz σ) pc lv (.int x :: .int (nI j) :: .ref (ad 10) :: st) := by
  exact v_iast C 10 0 rfl rfl (by decide) hj rfl d K
theorem gxs_ends (C : vC X cc RX0 nL (vTy ci cj cz) R0 ad 15) (d : decode cc pc = .ok (.getfield 42, 3)) (K : vV X (xW ad ci cj cz σ) (pc + 3) lv (.ref (ad 11) :: st)) : vV X (xW ad ci cj cz σ) pc lv (.ref (ad 0) :: st) := by
  exact v_get C in_X0 0 rfl rfl 15 (by decide) q52 rfl rfl d K
theorem lxs_ends (C : vC X cc RX0 nL (vTy ci cj cz) R0 ad 15) {j : Nat} {v : Int32} (hv : σ.ends j = v) (hj : j < 48) (d : decode cc pc = .ok (.iaload, 1)) (K : vV X (xW ad ci cj cz σ) (pc + 1) lv (.int v :: st)) : vV X (xW ad ci cj cz σ) pc lv (.int (nI j) :: .ref (ad 11) :: st) := by
  subst hv
  exact v_iald C 11 0 rfl rfl (by decide) hj d K
theorem sxs_ends (C : vC X cc RX0 nL (vTy ci cj cz) R0 ad 15) {j : Nat} {x : Int32} (hj : j < 48) (d : decode cc pc = .ok (.iastore, 1)) (K : vV X (xW ad ci cj cz (xs_ends σ (upd σ.ends j x))) (pc + 1) lv st) : vV X (xW ad ci cj cz σ) pc lv (.int x :: .int (nI j) :: .ref (ad 11) :: st) := by
  exact v_iast C 11 0 rfl rfl (by decide) hj rfl d K
theorem gxs_tl (C : vC X cc RX0 nL (vTy ci cj cz) R0 ad 15) {v : Nat} (hv : σ.tl = v) (d : decode cc pc = .ok (.getfield 88, 3)) (K : vV X (xW ad ci cj cz σ) (pc + 3) lv (.int (nI v) :: st)) : vV X (xW ad ci cj cz σ) pc lv (.ref (ad 0) :: st) := by
  subst hv
  exact v_get C in_X0 0 rfl rfl 16 (by decide) q53 rfl rfl d K
theorem pxs_tl (C : vC X cc RX0 nL (vTy ci cj cz) R0 ad 15) {v : Nat} (d : decode cc pc = .ok (.putfield 88, 3)) (K : vV X (xW ad ci cj cz (xs_tl σ v)) (pc + 3) lv st) : vV X (xW ad ci cj cz σ) pc lv (.int (nI v) :: .ref (ad 0) :: st) := by
  exact v_put (ws' := xW ad ci cj cz (xs_tl σ v)) C in_X0 tyX0_ok nmX0 0 rfl rfl 16 (by decide) q53 rfl rfl (ty := .int) (by decide +kernel) rfl rfl (Nat.le_of_ble_eq_true rfl) rfl d K
theorem gxs_txt (C : vC X cc RX0 nL (vTy ci cj cz) R0 ad 15) (d : decode cc pc = .ok (.getfield 45, 3)) (K : vV X (xW ad ci cj cz σ) (pc + 3) lv (.ref (ad 12) :: st)) : vV X (xW ad ci cj cz σ) pc lv (.ref (ad 0) :: st) := by
  exact v_get C in_X0 0 rfl rfl 17 (by decide) q54 rfl rfl d K
theorem lxs_txt (C : vC X cc RX0 nL (vTy ci cj cz) R0 ad 15) {j : Nat} {v : Nat} (hv : σ.txt j = v) (hj : j < 30) (d : decode cc pc = .ok (.iaload, 1)) (K : vV X (xW ad ci cj cz σ) (pc + 1) lv (.int (nI v) :: st)) : vV X (xW ad ci cj cz σ) pc lv (.int (nI j) :: .ref (ad 12) :: st) := by
  subst hv
  exact v_iald (f := fun j => nI (σ.txt j)) C 12 0 rfl rfl (by decide) hj d K
theorem sxs_txt (C : vC X cc RX0 nL (vTy ci cj cz) R0 ad 15) {j : Nat} {x : Nat} (hj : j < 30) (d : decode cc pc = .ok (.iastore, 1)) (K : vV X (xW ad ci cj cz (xs_txt σ (upN σ.txt j x))) (pc + 1) lv st) : vV X (xW ad ci cj cz σ) pc lv (.int (nI x) :: .int (nI j) :: .ref (ad 12) :: st) := by
  refine v_iast (f := fun j => nI (σ.txt j)) C 12 0 rfl rfl (by decide) hj ?_ d K
  rw [upd_nI]; rfl
theorem gxs_wc (C : vC X cc RX0 nL (vTy ci cj cz) R0 ad 15) {v : Nat} (hv : σ.wc = v) (d : decode cc pc = .ok (.getfield 94, 3)) (K : vV X (xW ad ci cj cz σ) (pc + 3) lv (.int (nI v) :: st)) : vV X (xW ad ci cj cz σ) pc lv (.ref (ad 0) :: st) := by
  subst hv
  exact v_get C in_X0 0 rfl rfl 18 (by decide) q55 rfl rfl d K
theorem pxs_wc (C : vC X cc RX0 nL (vTy ci cj cz) R0 ad 15) {v : Nat} (d : decode cc pc = .ok (.putfield 94, 3)) (K : vV X (xW ad ci cj cz (xs_wc σ v)) (pc + 3) lv st) : vV X (xW ad ci cj cz σ) pc lv (.int (nI v) :: .ref (ad 0) :: st) := by
  exact v_put (ws' := xW ad ci cj cz (xs_wc σ v)) C in_X0 tyX0_ok nmX0 0 rfl rfl 18 (by decide) q55 rfl rfl (ty := .int) (by decide +kernel) rfl rfl (Nat.le_of_ble_eq_true rfl) rfl d K
theorem gxs_wso (C : vC X cc RX0 nL (vTy ci cj cz) R0 ad 15) (d : decode cc pc = .ok (.getfield 48, 3)) (K : vV X (xW ad ci cj cz σ) (pc + 3) lv (.ref (ad 13) :: st)) : vV X (xW ad ci cj cz σ) pc lv (.ref (ad 0) :: st) := by
  exact v_get C in_X0 0 rfl rfl 19 (by decide) q56 rfl rfl d K
theorem lxs_wso (C : vC X cc RX0 nL (vTy ci cj cz) R0 ad 15) {j : Nat} {v : Int32} (hv : σ.wso j = v) (hj : j < 30) (d : decode cc pc = .ok (.iaload, 1)) (K : vV X (xW ad ci cj cz σ) (pc + 1) lv (.int v :: st)) : vV X (xW ad ci cj cz σ) pc lv (.int (nI j) :: .ref (ad 13) :: st) := by
  subst hv
  exact v_iald C 13 0 rfl rfl (by decide) hj d K
theorem sxs_wso (C : vC X cc RX0 nL (vTy ci cj cz) R0 ad 15) {j : Nat} {x : Int32} (hj : j < 30) (d : decode cc pc = .ok (.iastore, 1)) (K : vV X (xW ad ci cj cz (xs_wso σ (upd σ.wso j x))) (pc + 1) lv st) : vV X (xW ad ci cj cz σ) pc lv (.int x :: .int (nI j) :: .ref (ad 13) :: st) := by
  exact v_iast C 13 0 rfl rfl (by decide) hj rfl d K
theorem gxs_wle (C : vC X cc RX0 nL (vTy ci cj cz) R0 ad 15) (d : decode cc pc = .ok (.getfield 51, 3)) (K : vV X (xW ad ci cj cz σ) (pc + 3) lv (.ref (ad 14) :: st)) : vV X (xW ad ci cj cz σ) pc lv (.ref (ad 0) :: st) := by
  exact v_get C in_X0 0 rfl rfl 20 (by decide) q57 rfl rfl d K
theorem lxs_wle (C : vC X cc RX0 nL (vTy ci cj cz) R0 ad 15) {j : Nat} {v : Nat} (hv : σ.wle j = v) (hj : j < 30) (d : decode cc pc = .ok (.iaload, 1)) (K : vV X (xW ad ci cj cz σ) (pc + 1) lv (.int (nI v) :: st)) : vV X (xW ad ci cj cz σ) pc lv (.int (nI j) :: .ref (ad 14) :: st) := by
  subst hv
  exact v_iald (f := fun j => nI (σ.wle j)) C 14 0 rfl rfl (by decide) hj d K
theorem sxs_wle (C : vC X cc RX0 nL (vTy ci cj cz) R0 ad 15) {j : Nat} {x : Nat} (hj : j < 30) (d : decode cc pc = .ok (.iastore, 1)) (K : vV X (xW ad ci cj cz (xs_wle σ (upN σ.wle j x))) (pc + 1) lv st) : vV X (xW ad ci cj cz σ) pc lv (.int (nI x) :: .int (nI j) :: .ref (ad 14) :: st) := by
  refine v_iast (f := fun j => nI (σ.wle j)) C 14 0 rfl rfl (by decide) hj ?_ d K
  rw [upd_nI]; rfl
end ST
end
section
set_option maxRecDepth 100000
section ST
abbrev MS : Type := ((Nat) × (Nat → Nat) × (Nat → Nat) × (Nat → Nat) × (Nat → Nat)) × ((Nat) × (Nat → Nat) × (Nat) × (Nat → Nat)) × ((Nat) × (Nat → Nat) × (Nat) × (Nat → Nat) × (Nat → Bool))
abbrev MS.tok (σ : MS) : Nat := σ.1.1
abbrev MS.cod (σ : MS) : Nat → Nat := σ.1.2.1
abbrev MS.arg (σ : MS) : Nat → Nat := σ.1.2.2.1
abbrev MS.lef (σ : MS) : Nat → Nat := σ.1.2.2.2.1
abbrev MS.rig (σ : MS) : Nat → Nat := σ.1.2.2.2.2
abbrev MS.hei (σ : MS) : Nat := σ.2.1.1
abbrev MS.stk (σ : MS) : Nat → Nat := σ.2.1.2.1
abbrev MS.rul (σ : MS) : Nat := σ.2.1.2.2.1
abbrev MS.rof (σ : MS) : Nat → Nat := σ.2.1.2.2.2
abbrev MS.len (σ : MS) : Nat := σ.2.2.1
abbrev MS.txt (σ : MS) : Nat → Nat := σ.2.2.2.1
abbrev MS.siz (σ : MS) : Nat := σ.2.2.2.2.1
abbrev MS.row (σ : MS) : Nat → Nat := σ.2.2.2.2.2.1
abbrev MS.fit (σ : MS) : Nat → Bool := σ.2.2.2.2.2.2
abbrev ms_tok (σ : MS) (v : Nat) : MS := ((v, σ.1.2), σ.2)
abbrev ms_cod (σ : MS) (v : Nat → Nat) : MS := ((σ.1.1, v, σ.1.2.2), σ.2)
abbrev ms_arg (σ : MS) (v : Nat → Nat) : MS := ((σ.1.1, σ.1.2.1, v, σ.1.2.2.2), σ.2)
abbrev ms_lef (σ : MS) (v : Nat → Nat) : MS := ((σ.1.1, σ.1.2.1, σ.1.2.2.1, v, σ.1.2.2.2.2), σ.2)
abbrev ms_rig (σ : MS) (v : Nat → Nat) : MS := ((σ.1.1, σ.1.2.1, σ.1.2.2.1, σ.1.2.2.2.1, v), σ.2)
abbrev ms_hei (σ : MS) (v : Nat) : MS := (σ.1, (v, σ.2.1.2), σ.2.2)
abbrev ms_stk (σ : MS) (v : Nat → Nat) : MS := (σ.1, (σ.2.1.1, v, σ.2.1.2.2), σ.2.2)
abbrev ms_rul (σ : MS) (v : Nat) : MS := (σ.1, (σ.2.1.1, σ.2.1.2.1, v, σ.2.1.2.2.2), σ.2.2)
abbrev ms_rof (σ : MS) (v : Nat → Nat) : MS := (σ.1, (σ.2.1.1, σ.2.1.2.1, σ.2.1.2.2.1, v), σ.2.2)
abbrev ms_len (σ : MS) (v : Nat) : MS := (σ.1, σ.2.1, (v, σ.2.2.2))
abbrev ms_txt (σ : MS) (v : Nat → Nat) : MS := (σ.1, σ.2.1, (σ.2.2.1, v, σ.2.2.2.2))
abbrev ms_siz (σ : MS) (v : Nat) : MS := (σ.1, σ.2.1, (σ.2.2.1, σ.2.2.2.1, v, σ.2.2.2.2.2))
abbrev ms_row (σ : MS) (v : Nat → Nat) : MS := (σ.1, σ.2.1, (σ.2.2.1, σ.2.2.2.1, σ.2.2.2.2.1, v, σ.2.2.2.2.2.2))
abbrev ms_fit (σ : MS) (v : Nat → Bool) : MS := (σ.1, σ.2.1, (σ.2.2.1, σ.2.2.2.1, σ.2.2.2.2.1, σ.2.2.2.2.2.1, v))
/-- the cells of an object of the class, with the arrays that are its own -/
def mW (ad : Nat → Nat) (ci cj cz : ClassId) (σ : MS) : va_W := [(ad 0, .inr (1, [.int (nI σ.tok), .ref (ad 1), .ref (ad 2), .ref (ad 3), .ref (ad 4), .int (nI σ.hei), .ref (ad 5), .int (nI σ.rul), .ref (ad 6), .int (nI σ.len), .ref (ad 7), .int (nI σ.siz), .ref (ad 8), .ref (ad 9)])), (ad 1, .inl (ci, 40, .inl (fun j => nI (σ.cod j)))), (ad 2, .inl (ci, 40, .inl (fun j => nI (σ.arg j)))), (ad 3, .inl (ci, 40, .inl (fun j => nI (σ.lef j)))), (ad 4, .inl (ci, 40, .inl (fun j => nI (σ.rig j)))), (ad 5, .inl (ci, 40, .inl (fun j => nI (σ.stk j)))), (ad 6, .inl (ci, 5, .inl (fun j => nI (σ.rof j)))), (ad 7, .inl (ci, 30, .inl (fun j => nI (σ.txt j)))), (ad 8, .inl (ci, 30, .inl (fun j => nI (σ.row j)))), (ad 9, .inl (cz, 38440, .inl (fun j => bI (σ.fit j))))]
theorem mW_at {ad : Nat → Nat} {ci cj cz : ClassId} {σ : MS} : ∀ (k : Nat) (q : Nat × va_E), (mW ad ci cj cz σ)[k]? = some q → ∃ j, j < 10 ∧ q.1 = ad j := by
  intro k q h
  match k, h with
  | 0, h => cases h; exact ⟨0, by decide, rfl⟩
  | 1, h => cases h; exact ⟨1, by decide, rfl⟩
  | 2, h => cases h; exact ⟨2, by decide, rfl⟩
  | 3, h => cases h; exact ⟨3, by decide, rfl⟩
  | 4, h => cases h; exact ⟨4, by decide, rfl⟩
  | 5, h => cases h; exact ⟨5, by decide, rfl⟩
  | 6, h => cases h; exact ⟨6, by decide, rfl⟩
  | 7, h => cases h; exact ⟨7, by decide, rfl⟩
  | 8, h => cases h; exact ⟨8, by decide, rfl⟩
  | 9, h => cases h; exact ⟨9, by decide, rfl⟩
  | k + 10, h => exact absurd h (by simp [mW])
theorem mW_has {ad : Nat → Nat} {ci cj cz : ClassId} {σ : MS} : ∀ j, j < 10 → ∃ e, (mW ad ci cj cz σ)[j]? = some (ad j, e) := by
  intro j h
  match j, h with
  | 0, _ => exact ⟨_, rfl⟩
  | 1, _ => exact ⟨_, rfl⟩
  | 2, _ => exact ⟨_, rfl⟩
  | 3, _ => exact ⟨_, rfl⟩
  | 4, _ => exact ⟨_, rfl⟩
  | 5, _ => exact ⟨_, rfl⟩
  | 6, _ => exact ⟨_, rfl⟩
  | 7, _ => exact ⟨_, rfl⟩
  | 8, _ => exact ⟨_, rfl⟩
  | 9, _ => exact ⟨_, rfl⟩
  | k + 10, h => exact absurd h (by omega)
variable {X : VX} {cc : ByteArray} {nL : Nat} {R0 : Room} {ad : Nat → Nat} {ci cj cz : ClassId} {pc : Nat} {lv : List (Nat × Value)} {st : List Value} {σ : MS}
theorem gms_tok (C : vC X cc RX1 nL (vTy ci cj cz) R0 ad 10) {v : Nat} (hv : σ.tok = v) (d : decode cc pc = .ok (.getfield 47, 3)) (K : vV X (mW ad ci cj cz σ) (pc + 3) lv (.int (nI v) :: st)) : vV X (mW ad ci cj cz σ) pc lv (.ref (ad 0) :: st) := by
  subst hv
  exact v_get C in_X1 0 rfl rfl 0 (by decide) q203 rfl rfl d K
theorem pms_tok (C : vC X cc RX1 nL (vTy ci cj cz) R0 ad 10) {v : Nat} (d : decode cc pc = .ok (.putfield 47, 3)) (K : vV X (mW ad ci cj cz (ms_tok σ v)) (pc + 3) lv st) : vV X (mW ad ci cj cz σ) pc lv (.int (nI v) :: .ref (ad 0) :: st) := by
  exact v_put (ws' := mW ad ci cj cz (ms_tok σ v)) C in_X1 tyX1_ok nmX1 0 rfl rfl 0 (by decide) q203 rfl rfl (ty := .int) (by decide +kernel) rfl rfl (Nat.le_of_ble_eq_true rfl) rfl d K
theorem gms_cod (C : vC X cc RX1 nL (vTy ci cj cz) R0 ad 10) (d : decode cc pc = .ok (.getfield 7, 3)) (K : vV X (mW ad ci cj cz σ) (pc + 3) lv (.ref (ad 1) :: st)) : vV X (mW ad ci cj cz σ) pc lv (.ref (ad 0) :: st) := by
  exact v_get C in_X1 0 rfl rfl 1 (by decide) q204 rfl rfl d K
theorem lms_cod (C : vC X cc RX1 nL (vTy ci cj cz) R0 ad 10) {j : Nat} {v : Nat} (hv : σ.cod j = v) (hj : j < 40) (d : decode cc pc = .ok (.iaload, 1)) (K : vV X (mW ad ci cj cz σ) (pc + 1) lv (.int (nI v) :: st)) : vV X (mW ad ci cj cz σ) pc lv (.int (nI j) :: .ref (ad 1) :: st) := by
  subst hv
  exact v_iald (f := fun j => nI (σ.cod j)) C 1 0 rfl rfl (by decide) hj d K
theorem sms_cod (C : vC X cc RX1 nL (vTy ci cj cz) R0 ad 10) {j : Nat} {x : Nat} (hj : j < 40) (d : decode cc pc = .ok (.iastore, 1)) (K : vV X (mW ad ci cj cz (ms_cod σ (upN σ.cod j x))) (pc + 1) lv st) : vV X (mW ad ci cj cz σ) pc lv (.int (nI x) :: .int (nI j) :: .ref (ad 1) :: st) := by
  refine v_iast (f := fun j => nI (σ.cod j)) C 1 0 rfl rfl (by decide) hj ?_ d K
  rw [upd_nI]; rfl
theorem gms_arg (C : vC X cc RX1 nL (vTy ci cj cz) R0 ad 10) (d : decode cc pc = .ok (.getfield 13, 3)) (K : vV X (mW ad ci cj cz σ) (pc + 3) lv (.ref (ad 2) :: st)) : vV X (mW ad ci cj cz σ) pc lv (.ref (ad 0) :: st) := by
  exact v_get C in_X1 0 rfl rfl 2 (by decide) q205 rfl rfl d K
theorem lms_arg (C : vC X cc RX1 nL (vTy ci cj cz) R0 ad 10) {j : Nat} {v : Nat} (hv : σ.arg j = v) (hj : j < 40) (d : decode cc pc = .ok (.iaload, 1)) (K : vV X (mW ad ci cj cz σ) (pc + 1) lv (.int (nI v) :: st)) : vV X (mW ad ci cj cz σ) pc lv (.int (nI j) :: .ref (ad 2) :: st) := by
  subst hv
  exact v_iald (f := fun j => nI (σ.arg j)) C 2 0 rfl rfl (by decide) hj d K
theorem sms_arg (C : vC X cc RX1 nL (vTy ci cj cz) R0 ad 10) {j : Nat} {x : Nat} (hj : j < 40) (d : decode cc pc = .ok (.iastore, 1)) (K : vV X (mW ad ci cj cz (ms_arg σ (upN σ.arg j x))) (pc + 1) lv st) : vV X (mW ad ci cj cz σ) pc lv (.int (nI x) :: .int (nI j) :: .ref (ad 2) :: st) := by
  refine v_iast (f := fun j => nI (σ.arg j)) C 2 0 rfl rfl (by decide) hj ?_ d K
  rw [upd_nI]; rfl
theorem gms_lef (C : vC X cc RX1 nL (vTy ci cj cz) R0 ad 10) (d : decode cc pc = .ok (.getfield 16, 3)) (K : vV X (mW ad ci cj cz σ) (pc + 3) lv (.ref (ad 3) :: st)) : vV X (mW ad ci cj cz σ) pc lv (.ref (ad 0) :: st) := by
  exact v_get C in_X1 0 rfl rfl 3 (by decide) q206 rfl rfl d K
theorem lms_lef (C : vC X cc RX1 nL (vTy ci cj cz) R0 ad 10) {j : Nat} {v : Nat} (hv : σ.lef j = v) (hj : j < 40) (d : decode cc pc = .ok (.iaload, 1)) (K : vV X (mW ad ci cj cz σ) (pc + 1) lv (.int (nI v) :: st)) : vV X (mW ad ci cj cz σ) pc lv (.int (nI j) :: .ref (ad 3) :: st) := by
  subst hv
  exact v_iald (f := fun j => nI (σ.lef j)) C 3 0 rfl rfl (by decide) hj d K
theorem sms_lef (C : vC X cc RX1 nL (vTy ci cj cz) R0 ad 10) {j : Nat} {x : Nat} (hj : j < 40) (d : decode cc pc = .ok (.iastore, 1)) (K : vV X (mW ad ci cj cz (ms_lef σ (upN σ.lef j x))) (pc + 1) lv st) : vV X (mW ad ci cj cz σ) pc lv (.int (nI x) :: .int (nI j) :: .ref (ad 3) :: st) := by
  refine v_iast (f := fun j => nI (σ.lef j)) C 3 0 rfl rfl (by decide) hj ?_ d K
  rw [upd_nI]; rfl
theorem gms_rig (C : vC X cc RX1 nL (vTy ci cj cz) R0 ad 10) (d : decode cc pc = .ok (.getfield 19, 3)) (K : vV X (mW ad ci cj cz σ) (pc + 3) lv (.ref (ad 4) :: st)) : vV X (mW ad ci cj cz σ) pc lv (.ref (ad 0) :: st) := by
  exact v_get C in_X1 0 rfl rfl 4 (by decide) q207 rfl rfl d K
theorem lms_rig (C : vC X cc RX1 nL (vTy ci cj cz) R0 ad 10) {j : Nat} {v : Nat} (hv : σ.rig j = v) (hj : j < 40) (d : decode cc pc = .ok (.iaload, 1)) (K : vV X (mW ad ci cj cz σ) (pc + 1) lv (.int (nI v) :: st)) : vV X (mW ad ci cj cz σ) pc lv (.int (nI j) :: .ref (ad 4) :: st) := by
  subst hv
  exact v_iald (f := fun j => nI (σ.rig j)) C 4 0 rfl rfl (by decide) hj d K
theorem sms_rig (C : vC X cc RX1 nL (vTy ci cj cz) R0 ad 10) {j : Nat} {x : Nat} (hj : j < 40) (d : decode cc pc = .ok (.iastore, 1)) (K : vV X (mW ad ci cj cz (ms_rig σ (upN σ.rig j x))) (pc + 1) lv st) : vV X (mW ad ci cj cz σ) pc lv (.int (nI x) :: .int (nI j) :: .ref (ad 4) :: st) := by
  refine v_iast (f := fun j => nI (σ.rig j)) C 4 0 rfl rfl (by decide) hj ?_ d K
  rw [upd_nI]; rfl
theorem gms_hei (C : vC X cc RX1 nL (vTy ci cj cz) R0 ad 10) {v : Nat} (hv : σ.hei = v) (d : decode cc pc = .ok (.getfield 39, 3)) (K : vV X (mW ad ci cj cz σ) (pc + 3) lv (.int (nI v) :: st)) : vV X (mW ad ci cj cz σ) pc lv (.ref (ad 0) :: st) := by
  subst hv
  exact v_get C in_X1 0 rfl rfl 5 (by decide) q208 rfl rfl d K
theorem pms_hei (C : vC X cc RX1 nL (vTy ci cj cz) R0 ad 10) {v : Nat} (d : decode cc pc = .ok (.putfield 39, 3)) (K : vV X (mW ad ci cj cz (ms_hei σ v)) (pc + 3) lv st) : vV X (mW ad ci cj cz σ) pc lv (.int (nI v) :: .ref (ad 0) :: st) := by
  exact v_put (ws' := mW ad ci cj cz (ms_hei σ v)) C in_X1 tyX1_ok nmX1 0 rfl rfl 5 (by decide) q208 rfl rfl (ty := .int) (by decide +kernel) rfl rfl (Nat.le_of_ble_eq_true rfl) rfl d K
theorem gms_stk (C : vC X cc RX1 nL (vTy ci cj cz) R0 ad 10) (d : decode cc pc = .ok (.getfield 22, 3)) (K : vV X (mW ad ci cj cz σ) (pc + 3) lv (.ref (ad 5) :: st)) : vV X (mW ad ci cj cz σ) pc lv (.ref (ad 0) :: st) := by
  exact v_get C in_X1 0 rfl rfl 6 (by decide) q209 rfl rfl d K
theorem lms_stk (C : vC X cc RX1 nL (vTy ci cj cz) R0 ad 10) {j : Nat} {v : Nat} (hv : σ.stk j = v) (hj : j < 40) (d : decode cc pc = .ok (.iaload, 1)) (K : vV X (mW ad ci cj cz σ) (pc + 1) lv (.int (nI v) :: st)) : vV X (mW ad ci cj cz σ) pc lv (.int (nI j) :: .ref (ad 5) :: st) := by
  subst hv
  exact v_iald (f := fun j => nI (σ.stk j)) C 5 0 rfl rfl (by decide) hj d K
theorem sms_stk (C : vC X cc RX1 nL (vTy ci cj cz) R0 ad 10) {j : Nat} {x : Nat} (hj : j < 40) (d : decode cc pc = .ok (.iastore, 1)) (K : vV X (mW ad ci cj cz (ms_stk σ (upN σ.stk j x))) (pc + 1) lv st) : vV X (mW ad ci cj cz σ) pc lv (.int (nI x) :: .int (nI j) :: .ref (ad 5) :: st) := by
  refine v_iast (f := fun j => nI (σ.stk j)) C 5 0 rfl rfl (by decide) hj ?_ d K
  rw [upd_nI]; rfl
theorem gms_rul (C : vC X cc RX1 nL (vTy ci cj cz) R0 ad 10) {v : Nat} (hv : σ.rul = v) (d : decode cc pc = .ok (.getfield 50, 3)) (K : vV X (mW ad ci cj cz σ) (pc + 3) lv (.int (nI v) :: st)) : vV X (mW ad ci cj cz σ) pc lv (.ref (ad 0) :: st) := by
  subst hv
  exact v_get C in_X1 0 rfl rfl 7 (by decide) q210 rfl rfl d K
theorem pms_rul (C : vC X cc RX1 nL (vTy ci cj cz) R0 ad 10) {v : Nat} (d : decode cc pc = .ok (.putfield 50, 3)) (K : vV X (mW ad ci cj cz (ms_rul σ v)) (pc + 3) lv st) : vV X (mW ad ci cj cz σ) pc lv (.int (nI v) :: .ref (ad 0) :: st) := by
  exact v_put (ws' := mW ad ci cj cz (ms_rul σ v)) C in_X1 tyX1_ok nmX1 0 rfl rfl 7 (by decide) q210 rfl rfl (ty := .int) (by decide +kernel) rfl rfl (Nat.le_of_ble_eq_true rfl) rfl d K
theorem gms_rof (C : vC X cc RX1 nL (vTy ci cj cz) R0 ad 10) (d : decode cc pc = .ok (.getfield 25, 3)) (K : vV X (mW ad ci cj cz σ) (pc + 3) lv (.ref (ad 6) :: st)) : vV X (mW ad ci cj cz σ) pc lv (.ref (ad 0) :: st) := by
  exact v_get C in_X1 0 rfl rfl 8 (by decide) q211 rfl rfl d K
theorem lms_rof (C : vC X cc RX1 nL (vTy ci cj cz) R0 ad 10) {j : Nat} {v : Nat} (hv : σ.rof j = v) (hj : j < 5) (d : decode cc pc = .ok (.iaload, 1)) (K : vV X (mW ad ci cj cz σ) (pc + 1) lv (.int (nI v) :: st)) : vV X (mW ad ci cj cz σ) pc lv (.int (nI j) :: .ref (ad 6) :: st) := by
  subst hv
  exact v_iald (f := fun j => nI (σ.rof j)) C 6 0 rfl rfl (by decide) hj d K
theorem sms_rof (C : vC X cc RX1 nL (vTy ci cj cz) R0 ad 10) {j : Nat} {x : Nat} (hj : j < 5) (d : decode cc pc = .ok (.iastore, 1)) (K : vV X (mW ad ci cj cz (ms_rof σ (upN σ.rof j x))) (pc + 1) lv st) : vV X (mW ad ci cj cz σ) pc lv (.int (nI x) :: .int (nI j) :: .ref (ad 6) :: st) := by
  refine v_iast (f := fun j => nI (σ.rof j)) C 6 0 rfl rfl (by decide) hj ?_ d K
  rw [upd_nI]; rfl
theorem gms_len (C : vC X cc RX1 nL (vTy ci cj cz) R0 ad 10) {v : Nat} (hv : σ.len = v) (d : decode cc pc = .ok (.getfield 53, 3)) (K : vV X (mW ad ci cj cz σ) (pc + 3) lv (.int (nI v) :: st)) : vV X (mW ad ci cj cz σ) pc lv (.ref (ad 0) :: st) := by
  subst hv
  exact v_get C in_X1 0 rfl rfl 9 (by decide) q212 rfl rfl d K
theorem pms_len (C : vC X cc RX1 nL (vTy ci cj cz) R0 ad 10) {v : Nat} (d : decode cc pc = .ok (.putfield 53, 3)) (K : vV X (mW ad ci cj cz (ms_len σ v)) (pc + 3) lv st) : vV X (mW ad ci cj cz σ) pc lv (.int (nI v) :: .ref (ad 0) :: st) := by
  exact v_put (ws' := mW ad ci cj cz (ms_len σ v)) C in_X1 tyX1_ok nmX1 0 rfl rfl 9 (by decide) q212 rfl rfl (ty := .int) (by decide +kernel) rfl rfl (Nat.le_of_ble_eq_true rfl) rfl d K
theorem gms_txt (C : vC X cc RX1 nL (vTy ci cj cz) R0 ad 10) (d : decode cc pc = .ok (.getfield 28, 3)) (K : vV X (mW ad ci cj cz σ) (pc + 3) lv (.ref (ad 7) :: st)) : vV X (mW ad ci cj cz σ) pc lv (.ref (ad 0) :: st) := by
  exact v_get C in_X1 0 rfl rfl 10 (by decide) q213 rfl rfl d K
theorem lms_txt (C : vC X cc RX1 nL (vTy ci cj cz) R0 ad 10) {j : Nat} {v : Nat} (hv : σ.txt j = v) (hj : j < 30) (d : decode cc pc = .ok (.iaload, 1)) (K : vV X (mW ad ci cj cz σ) (pc + 1) lv (.int (nI v) :: st)) : vV X (mW ad ci cj cz σ) pc lv (.int (nI j) :: .ref (ad 7) :: st) := by
  subst hv
  exact v_iald (f := fun j => nI (σ.txt j)) C 7 0 rfl rfl (by decide) hj d K
theorem sms_txt (C : vC X cc RX1 nL (vTy ci cj cz) R0 ad 10) {j : Nat} {x : Nat} (hj : j < 30) (d : decode cc pc = .ok (.iastore, 1)) (K : vV X (mW ad ci cj cz (ms_txt σ (upN σ.txt j x))) (pc + 1) lv st) : vV X (mW ad ci cj cz σ) pc lv (.int (nI x) :: .int (nI j) :: .ref (ad 7) :: st) := by
  refine v_iast (f := fun j => nI (σ.txt j)) C 7 0 rfl rfl (by decide) hj ?_ d K
  rw [upd_nI]; rfl
theorem gms_siz (C : vC X cc RX1 nL (vTy ci cj cz) R0 ad 10) {v : Nat} (hv : σ.siz = v) (d : decode cc pc = .ok (.getfield 64, 3)) (K : vV X (mW ad ci cj cz σ) (pc + 3) lv (.int (nI v) :: st)) : vV X (mW ad ci cj cz σ) pc lv (.ref (ad 0) :: st) := by
  subst hv
  exact v_get C in_X1 0 rfl rfl 11 (by decide) q214 rfl rfl d K
theorem pms_siz (C : vC X cc RX1 nL (vTy ci cj cz) R0 ad 10) {v : Nat} (d : decode cc pc = .ok (.putfield 64, 3)) (K : vV X (mW ad ci cj cz (ms_siz σ v)) (pc + 3) lv st) : vV X (mW ad ci cj cz σ) pc lv (.int (nI v) :: .ref (ad 0) :: st) := by
  exact v_put (ws' := mW ad ci cj cz (ms_siz σ v)) C in_X1 tyX1_ok nmX1 0 rfl rfl 11 (by decide) q214 rfl rfl (ty := .int) (by decide +kernel) rfl rfl (Nat.le_of_ble_eq_true rfl) rfl d K
theorem gms_row (C : vC X cc RX1 nL (vTy ci cj cz) R0 ad 10) (d : decode cc pc = .ok (.getfield 31, 3)) (K : vV X (mW ad ci cj cz σ) (pc + 3) lv (.ref (ad 8) :: st)) : vV X (mW ad ci cj cz σ) pc lv (.ref (ad 0) :: st) := by
  exact v_get C in_X1 0 rfl rfl 12 (by decide) q215 rfl rfl d K
theorem lms_row (C : vC X cc RX1 nL (vTy ci cj cz) R0 ad 10) {j : Nat} {v : Nat} (hv : σ.row j = v) (hj : j < 30) (d : decode cc pc = .ok (.iaload, 1)) (K : vV X (mW ad ci cj cz σ) (pc + 1) lv (.int (nI v) :: st)) : vV X (mW ad ci cj cz σ) pc lv (.int (nI j) :: .ref (ad 8) :: st) := by
  subst hv
  exact v_iald (f := fun j => nI (σ.row j)) C 8 0 rfl rfl (by decide) hj d K
theorem sms_row (C : vC X cc RX1 nL (vTy ci cj cz) R0 ad 10) {j : Nat} {x : Nat} (hj : j < 30) (d : decode cc pc = .ok (.iastore, 1)) (K : vV X (mW ad ci cj cz (ms_row σ (upN σ.row j x))) (pc + 1) lv st) : vV X (mW ad ci cj cz σ) pc lv (.int (nI x) :: .int (nI j) :: .ref (ad 8) :: st) := by
  refine v_iast (f := fun j => nI (σ.row j)) C 8 0 rfl rfl (by decide) hj ?_ d K
  rw [upd_nI]; rfl
theorem gms_fit (C : vC X cc RX1 nL (vTy ci cj cz) R0 ad 10) (d : decode cc pc = .ok (.getfield 35, 3)) (K : vV X (mW ad ci cj cz σ) (pc + 3) lv (.ref (ad 9) :: st)) : vV X (mW ad ci cj cz σ) pc lv (.ref (ad 0) :: st) := by
  exact v_get C in_X1 0 rfl rfl 13 (by decide) q216 rfl rfl d K
theorem lms_fit (C : vC X cc RX1 nL (vTy ci cj cz) R0 ad 10) {j : Nat} {v : Bool} (hv : σ.fit j = v) (hj : j < 38440) (d : decode cc pc = .ok (.baload, 1)) (K : vV X (mW ad ci cj cz σ) (pc + 1) lv (.int (bI v) :: st)) : vV X (mW ad ci cj cz σ) pc lv (.int (nI j) :: .ref (ad 9) :: st) := by
  subst hv
  exact v_zald (f := fun j => bI (σ.fit j)) C 9 2 rfl rfl (by decide) hj d K
theorem sms_fit (C : vC X cc RX1 nL (vTy ci cj cz) R0 ad 10) {j : Nat} {x : Bool} (hj : j < 38440) (d : decode cc pc = .ok (.bastore, 1)) (K : vV X (mW ad ci cj cz (ms_fit σ (upB σ.fit j x))) (pc + 1) lv st) : vV X (mW ad ci cj cz σ) pc lv (.int (bI x) :: .int (nI j) :: .ref (ad 9) :: st) := by
  refine v_zast (f := fun j => bI (σ.fit j)) C 9 2 rfl rfl (by decide) hj ?_ d K
  rw [upd_bI]; rfl
end ST
end
section
set_option maxRecDepth 100000
section P0
-- ===== pasted from the kit's BITS.to-paste =====
theorem s_l : ∀ n, n < 32 → ((nI n &&& 31).toBitVec.smod 32).toNat = n := by decide +kernel
theorem s_u : ∀ n, n < 32 → (((nI n).toUInt32 &&& Int32.toUInt32 31).toBitVec % 32).toNat = n := by decide +kernel
theorem ts_bit {w : Int64} {s : UInt64} {j : Nat} (hj : j < 64) (hs : s.toNat = j) : ((w.toUInt64 >>> s).toInt64 &&& 1) = 0 ↔ w.toBitVec.getLsbD j = false := by
  have e : (w.toUInt64 >>> s).toInt64.toBitVec = w.toBitVec >>> j := by
    apply BitVec.eq_of_toNat_eq
    show (w.toUInt64 >>> s).toNat = _
    rw [UInt64.toNat_shiftRight, hs, Nat.mod_eq_of_lt hj, BitVec.toNat_ushiftRight]
    rfl
  rw [← Int64.toBitVec_inj, Int64.toBitVec_and, e]
  show w.toBitVec >>> j &&& 1#64 = 0#64 ↔ _
  constructor
  · intro h
    have t := congrArg (fun x => x.getLsbD 0) h
    simpa using t
  · intro h
    apply BitVec.eq_of_getLsbD_eq
    intro i hi
    cases i with
    | zero => simp [h]
    | succ i => simp
theorem wb_tb (n : Nat) : (lN n).toBitVec = BitVec.ofNat 64 n := rfl
theorem wb_inj {a b : Int64} (h : a.toBitVec = b.toBitVec) : a = b := Int64.toBitVec_inj.mp h
theorem wb_tn {n : Nat} (h : n < 2 ^ 64) : (lN n).toBitVec.toNat = n := by rw [wb_tb, BitVec.toNat_ofNat, Nat.mod_eq_of_lt h]
theorem wb_c : ∀ k, k < 64 → ((nI k).toInt64 &&& 63) = lN k := by decide +kernel
theorem wb_cu : ∀ k, k < 64 → ((nI k).toInt64.toUInt64 &&& Int64.toUInt64 63) = UInt64.ofNat k := by decide +kernel
theorem wb_sm : ∀ k, k < 64 → (BitVec.ofNat 64 k).smod 64 = BitVec.ofNat 64 k := by decide +kernel
theorem wb_shl (n : Nat) {k : Nat} (hk : k < 64) : lN n <<< ((nI k).toInt64 &&& 63) = lN (n * 2 ^ k) := by
  rw [wb_c k hk]
  apply wb_inj
  rw [Int64.toBitVec_shiftLeft, wb_tb, wb_tb, wb_tb, wb_sm k hk]
  apply BitVec.eq_of_toNat_eq
  rw [BitVec.shiftLeft_eq', BitVec.toNat_shiftLeft, BitVec.toNat_ofNat, BitVec.toNat_ofNat, BitVec.toNat_ofNat, Nat.mod_eq_of_lt (show k < 2 ^ 64 by omega), Nat.shiftLeft_eq, Nat.mul_mod, Nat.mod_mod, ← Nat.mul_mod]
-- ===== own =====
theorem ci_0 : Int32.ofInt 0 = nI 0 := by decide
theorem ci_1 : Int32.ofInt 1 = nI 1 := by decide
theorem ci_2 : Int32.ofInt 2 = nI 2 := by decide
theorem ci_3 : Int32.ofInt 3 = nI 3 := by decide
theorem ci_4 : Int32.ofInt 4 = nI 4 := by decide
theorem ci_5 : Int32.ofInt 5 = nI 5 := by decide
theorem ci_m1 : Int32.ofInt (-1) = (-1) := by decide
theorem cb_7 : (Int8.ofInt 7).toInt32 = nI 7 := by decide
theorem cb_15 : (Int8.ofInt 15).toInt32 = nI 15 := by decide
theorem cb_30 : (Int8.ofInt 30).toInt32 = nI 30 := by decide
theorem cb_31 : (Int8.ofInt 31).toInt32 = nI 31 := by decide
theorem cb_40 : (Int8.ofInt 40).toInt32 = nI 40 := by decide
theorem cb_48 : (Int8.ofInt 48).toInt32 = nI 48 := by decide
theorem cb_m2 : (Int8.ofInt (-2)).toInt32 = (-2) := by decide
theorem cs_192 : (Int16.ofInt 192).toInt32 = nI 192 := by decide
theorem cs_961 : (Int16.ofInt 961).toInt32 = nI 961 := by decide
theorem cz_0 : Int32.ofInt 0 = bI false := by decide
theorem cz_1 : Int32.ofInt 1 = bI true := by decide
theorem cl_0 : Int64.ofNat ((0 : Fin 2) : Nat) = 0 := by decide
theorem cl_1 : Int64.ofNat ((1 : Fin 2) : Nat) = 1 := by decide
/-- a loop that counts up to e -/
theorem lp_up {P : Nat → Prop} {e : Nat} (h : ∀ i, i ≤ e → (i < e → P (i + 1)) → P i) : ∀ i, i ≤ e → P i := by
  intro i hi
  obtain ⟨n, hn⟩ : ∃ n, e - i = n := ⟨_, rfl⟩
  induction n generalizing i with
  | zero => exact h i hi (fun h' => absurd h' (by omega))
  | succ n ih => exact h i hi (fun h' => ih (i + 1) (by omega) (by omega))
/-- a loop that counts down to 0 -/
theorem lp_dn {P : Nat → Prop} (h : ∀ i, (∀ j, i = j + 1 → P j) → P i) : ∀ i, P i := by
  intro i
  induction i with
  | zero => exact h 0 (fun j hj => absurd hj (by omega))
  | succ n ih =>
    refine h (n + 1) (fun j hj => ?_)
    have e : j = n := by omega
    rw [e]
    exact ih
/-- place p is in the set w -/
def lb (w : Int64) (p : Nat) : Bool := w.toBitVec.getLsbD p
theorem lb_or (a b : Int64) (p : Nat) : lb (a ||| b) p = (lb a p || lb b p) := by
  unfold lb
  rw [Int64.toBitVec_or, BitVec.getLsbD_or]
theorem lb_and (a b : Int64) (p : Nat) : lb (a &&& b) p = (lb a p && lb b p) := by
  unfold lb
  rw [Int64.toBitVec_and, BitVec.getLsbD_and]
theorem lb_0 (p : Nat) : lb 0 p = false := by
  show (0#64).getLsbD p = false
  simp
theorem lb_big {w : Int64} {p : Nat} (h : 64 ≤ p) : lb w p = false := BitVec.getLsbD_of_ge _ _ h
theorem lb_lt {w : Int64} {p : Nat} (h : lb w p = true) : p < 64 := by
  rcases Nat.lt_or_ge p 64 with q | q
  · exact q
  · rw [lb_big q] at h
    exact absurd h (by decide)
theorem lb_ext {a b : Int64} (h : ∀ p, lb a p = lb b p) : a = b := Int64.toBitVec_inj.mp (BitVec.eq_of_getLsbD_eq (fun i _ => h i))
theorem lb_ne0 {w : Int64} : ¬ w = 0 ↔ ∃ p, lb w p = true := by
  constructor
  · intro h
    apply Classical.byContradiction
    intro q
    apply h
    apply lb_ext
    intro p
    rw [lb_0]
    cases e : lb w p with
    | false => rfl
    | true => exact absurd ⟨p, e⟩ q
  · intro ⟨p, hp⟩ e
    rw [e, lb_0] at hp
    exact absurd hp (by decide)
/-- the set of the one place p -/
def b1 (p : Nat) : Int64 := lN (2 ^ p)
theorem b1_shl {p : Nat} (hp : p < 64) : (1 : Int64) <<< ((nI p).toInt64 &&& 63) = b1 p := by
  have h := wb_shl 1 hp
  rw [Nat.one_mul] at h
  exact h
theorem lb_b1 {p : Nat} (hp : p < 64) (q : Nat) : lb (b1 p) q = decide (p = q) := by
  unfold lb b1
  rw [wb_tb, BitVec.getLsbD_ofNat, Nat.testBit_two_pow]
  by_cases h : p = q
  · subst h
    simp [hp]
  · simp [h]
theorem lb_tst {w : Int64} {p : Nat} (hp : p < 64) : ((w.toUInt64 >>> ((nI p).toInt64.toUInt64 &&& Int64.toUInt64 63)).toInt64 &&& 1) = 0 ↔ lb w p = false := by
  refine ts_bit hp ?_
  rw [wb_cu p hp]
  show (BitVec.ofNat 64 p).toNat = p
  rw [BitVec.toNat_ofNat, Nat.mod_eq_of_lt (by omega)]
theorem lb_tst' {w : Int64} {p : Nat} (hp : p < 64) : ¬ ((w.toUInt64 >>> ((nI p).toInt64.toUInt64 &&& Int64.toUInt64 63)).toInt64 &&& 1) = 0 ↔ lb w p = true := by
  rw [lb_tst hp]
  cases lb w p <;> simp
/-- the least r of i, .., i + m - 1 with b r, or -1 -/
def lu (b : Nat → Bool) : Nat → Nat → Int32
  | 0, _ => -1
  | m + 1, i => if b i = true then nI i else lu b m (i + 1)
theorem lu_cong {b c : Nat → Bool} : ∀ (m i : Nat), (∀ r, i ≤ r → r < i + m → b r = c r) → lu b m i = lu c m i := by
  intro m
  induction m with
  | zero => intro i _; rfl
  | succ m ih =>
    intro i h
    show (if b i = true then nI i else lu b m (i + 1)) = (if c i = true then nI i else lu c m (i + 1))
    rw [h i (Nat.le_refl _) (by omega), ih (i + 1) (fun r h1 h2 => h r (by omega) (by omega))]
/-- it is -1 and there is none, or it is one of them -/
theorem lu_spec {b : Nat → Bool} : ∀ (m i : Nat), (lu b m i = -1 ∧ ∀ r, i ≤ r → r < i + m → b r = false) ∨ ∃ r, i ≤ r ∧ r < i + m ∧ lu b m i = nI r ∧ b r = true := by
  intro m
  induction m with
  | zero => intro i; exact Or.inl ⟨rfl, fun r h1 h2 => absurd h2 (by omega)⟩
  | succ m ih =>
    intro i
    cases e : b i with
    | true => exact Or.inr ⟨i, Nat.le_refl _, by omega, if_pos e, e⟩
    | false =>
      have h : lu b (m + 1) i = lu b m (i + 1) := if_neg (by rw [e]; decide)
      rw [h]
      rcases ih (i + 1) with ⟨h1, h2⟩ | ⟨r, h1, h2, h3, h4⟩
      · refine Or.inl ⟨h1, fun r q1 q2 => ?_⟩
        rcases Nat.lt_or_ge i r with q | q
        · exact h2 r q (by omega)
        · have e2 : r = i := by omega
          rw [e2]; exact e
      · exact Or.inr ⟨r, by omega, by omega, h3, h4⟩
/-- where the places of w lead: n places looked at -/
def flw (fo : Nat → Int64) (w : Int64) : Nat → Int64
  | 0 => 0
  | n + 1 => flw fo w n ||| (if lb w n = true then fo n else 0)
theorem lb_flw (fo : Nat → Int64) (w : Int64) (q : Nat) : ∀ n, lb (flw fo w n) q = true ↔ ∃ p, p < n ∧ lb w p = true ∧ lb (fo p) q = true := by
  intro n
  induction n with
  | zero =>
    show lb 0 q = true ↔ _
    rw [lb_0]
    exact ⟨fun h => absurd h (by decide), fun ⟨p, h, _⟩ => absurd h (by omega)⟩
  | succ n ih =>
    show lb (flw fo w n ||| (if lb w n = true then fo n else 0)) q = true ↔ _
    rw [lb_or, Bool.or_eq_true, ih]
    constructor
    · rintro (⟨p, h1, h2⟩ | h)
      · exact ⟨p, by omega, h2⟩
      · by_cases e : lb w n = true
        · rw [if_pos e] at h
          exact ⟨n, by omega, e, h⟩
        · rw [if_neg e, lb_0] at h
          exact absurd h (by decide)
    · rintro ⟨p, h1, h2, h3⟩
      by_cases e : p = n
      · subst e
        right
        rw [if_pos h2]
        exact h3
      · exact Or.inl ⟨p, by omega, h2, h3⟩
/-- all of them together -/
def orA (f : Nat → Int64) : Nat → Int64
  | 0 => 0
  | n + 1 => orA f n ||| f n
theorem lb_orA (f : Nat → Int64) (q : Nat) : ∀ n, lb (orA f n) q = true ↔ ∃ r, r < n ∧ lb (f r) q = true := by
  intro n
  induction n with
  | zero =>
    show lb 0 q = true ↔ _
    rw [lb_0]
    exact ⟨fun h => absurd h (by decide), fun ⟨p, h, _⟩ => absurd h (by omega)⟩
  | succ n ih =>
    show lb (orA f n ||| f n) q = true ↔ _
    rw [lb_or, Bool.or_eq_true, ih]
    constructor
    · rintro (⟨p, h1, h2⟩ | h)
      · exact ⟨p, by omega, h2⟩
      · exact ⟨n, by omega, h⟩
    · rintro ⟨p, h1, h2⟩
      by_cases e : p = n
      · subst e
        exact Or.inr h2
      · exact Or.inl ⟨p, by omega, h2⟩
/-- follow behind n rounds of lead(from, to) -/
def ldF (fo : Nat → Int64) (fr to : Int64) : Nat → Nat → Int64
  | 0 => fo
  | n + 1 => if lb fr n = true then vp_updL (ldF fo fr to n) n (ldF fo fr to n n ||| to) else ldF fo fr to n
theorem ldF_at (fo : Nat → Int64) (fr to : Int64) (p : Nat) : ∀ n, ldF fo fr to n p = if p < n ∧ lb fr p = true then fo p ||| to else fo p := by
  intro n
  induction n with
  | zero => rw [if_neg (by omega)]; rfl
  | succ n ih =>
    show (if lb fr n = true then vp_updL (ldF fo fr to n) n (ldF fo fr to n n ||| to) else ldF fo fr to n) p = _
    by_cases e : lb fr n = true
    · rw [if_pos e]
      by_cases h : p = n
      · subst h
        rw [pk_uLs, ih, if_neg (by omega), if_pos ⟨by omega, e⟩]
      · rw [pk_uLn h, ih]
        by_cases q : p < n ∧ lb fr p = true
        · rw [if_pos q, if_pos ⟨by omega, q.2⟩]
        · rw [if_neg q, if_neg (fun z => q ⟨by omega, z.2⟩)]
    · rw [if_neg e, ih]
      by_cases q : p < n ∧ lb fr p = true
      · rw [if_pos q, if_pos ⟨by omega, q.2⟩]
      · rw [if_neg q, if_neg (fun z => by
          by_cases h : p = n
          · subst h; exact e z.2
          · exact q ⟨by omega, z.2⟩)]
/-- the places of the letters behind n rounds of pushPlace -/
def ppF (lp : Nat → Int64) (ls p : Nat) : Nat → Nat → Int64
  | 0 => lp
  | n + 1 => vp_updL (ppF lp ls p n) n (ppF lp ls p n n ||| (if ls.testBit n = true then b1 p else 0))
theorem ppF_at (lp : Nat → Int64) (ls p a : Nat) : ∀ n, ppF lp ls p n a = if a < n then lp a ||| (if ls.testBit a = true then b1 p else 0) else lp a := by
  intro n
  induction n with
  | zero => rw [if_neg (by omega)]; rfl
  | succ n ih =>
    show vp_updL (ppF lp ls p n) n (ppF lp ls p n n ||| (if ls.testBit n = true then b1 p else 0)) a = _
    by_cases h : a = n
    · subst h
      rw [pk_uLs, ih, if_neg (show ¬ a < a by omega), if_pos (show a < a + 1 by omega)]
    · rw [pk_uLn h, ih]
      by_cases q : a < n
      · rw [if_pos q, if_pos (show a < n + 1 by omega)]
      · rw [if_neg q, if_neg (show ¬ a < n + 1 by omega)]
/-- n places from k on set to x -/
def fiL (f : Nat → Int64) (x : Int64) : Nat → Nat → Int64
  | 0 => f
  | n + 1 => vp_updL (fiL f x n) n x
theorem fiL_at (f : Nat → Int64) (x : Int64) (a : Nat) : ∀ n, fiL f x n a = if a < n then x else f a := by
  intro n
  induction n with
  | zero => rw [if_neg (by omega)]; rfl
  | succ n ih =>
    show vp_updL (fiL f x n) n x a = _
    by_cases h : a = n
    · subst h
      rw [pk_uLs, if_pos (by omega)]
    · rw [pk_uLn h, ih]
      by_cases q : a < n
      · rw [if_pos q, if_pos (by omega)]
      · rw [if_neg q, if_neg (by omega)]
def fiI (f : Nat → Int32) (k : Nat) (x : Int32) : Nat → Nat → Int32
  | 0 => f
  | n + 1 => upd (fiI f k x n) (k + n) x
theorem fiI_at (f : Nat → Int32) (k : Nat) (x : Int32) (a : Nat) : ∀ n, fiI f k x n a = if k ≤ a ∧ a < k + n then x else f a := by
  intro n
  induction n with
  | zero => rw [if_neg (by omega)]; rfl
  | succ n ih =>
    show upd (fiI f k x n) (k + n) x a = _
    by_cases h : a = k + n
    · subst h
      rw [pk_us, if_pos (by omega)]
    · rw [pk_un h, ih]
      by_cases q : k ≤ a ∧ a < k + n
      · rw [if_pos q, if_pos (by omega)]
      · rw [if_neg q, if_neg (by omega)]
theorem upd_upd (f : Nat → Int32) (i : Nat) (x y : Int32) : upd (upd f i x) i y = upd f i y := by
  funext j
  by_cases h : j = i
  · subst h; rw [pk_us, pk_us]
  · rw [pk_un h, pk_un h, pk_un h]
end P0
end
section
set_option maxRecDepth 100000
section XL
set_option maxHeartbeats 4000000 in
theorem met_x_advance {l : Launch} {D : va_G} {ad : Nat → Nat} {ci cj cz : ClassId} (σ : XS) (w : Int64) (a : Nat) (ha : a < 4) : vMl l D (vTy ci cj cz) yX0_advance cX0_advance 4 0 [.ref (ad 0), .long w, .int (nI a)] (xW ad ci cj cz σ) ad 15 (fun r u => r = w &&& σ.lp a ∧ u = σ) (xW ad ci cj cz) := by
  refine vMl_of (by decide) (Nat.le_of_ble_eq_true rfl) xW_at ?_
  intro X C E
  have C : vC X cX0_advance RX0 4 (vTy ci cj cz) (vRm 0) ad 15 := C
  refine v_lv (lv' := [(0, .ref (ad 0)), (1, .long w), (3, .int (nI a))]) rfl ?_
  refine v_lload_n (pc := 0) C dX0_advance_0 rfl 1 rfl ?_
  refine v_aload_n (pc := 1) C dX0_advance_1 rfl 0 rfl ?_
  refine gxs_lp (pc := 2) C dX0_advance_2 ?_
  refine v_iload_n (pc := 5) C dX0_advance_5 rfl 2 rfl ?_
  refine lxs_lp (pc := 6) (j := a) (v := σ.lp a) C rfl (by omega) dX0_advance_6 ?_
  refine v_land (pc := 7) C dX0_advance_7 ?_
  exact v_lret (pc := 8) C E σ rfl ⟨rfl, rfl⟩ dX0_advance_8
set_option maxHeartbeats 4000000 in
theorem met_x_following {l : Launch} {D : va_G} {ad : Nat → Nat} {ci cj cz : ClassId} (σ : XS) (w : Int64) (hp : σ.pl ≤ 40) : vMl l D (vTy ci cj cz) yX0_following cX0_following 6 0 [.ref (ad 0), .long w] (xW ad ci cj cz σ) ad 15 (fun r u => r = flw σ.fol w σ.pl ∧ u = σ) (xW ad ci cj cz) := by
  refine vMl_of (by decide) (Nat.le_of_ble_eq_true rfl) xW_at ?_
  intro X C E
  have C : vC X cX0_following RX0 6 (vTy ci cj cz) (vRm 0) ad 15 := C
  refine v_lv (lv' := [(0, .ref (ad 0)), (1, .long w)]) rfl ?_
  have L : ∀ i, i ≤ σ.pl → vV X (xW ad ci cj cz σ) 5 [(5, .int (nI i)), (3, .long (flw σ.fol w i)), (0, .ref (ad 0)), (1, .long w)] [] := by
    refine lp_up (fun i hi ih => ?_)
    refine v_iload (pc := 5) C dX0_following_5 0 rfl ?_
    refine v_aload_n (pc := 7) C dX0_following_7 rfl 2 rfl ?_
    refine gxs_pl (pc := 8) (v := σ.pl) C rfl dX0_following_8 ?_
    refine v_icmp_geN (pc := 11) (tgt := 45) C dX0_following_11 (by decide) (by omega) (by omega) (fun h11 => ?_) (fun h11 => ?_)
    · skip
      have hi2 : i = σ.pl := by omega
      subst hi2
      refine v_lload_n (pc := 45) C dX0_following_45 rfl 1 rfl ?_
      exact v_lret (pc := 46) C E σ rfl ⟨rfl, rfl⟩ dX0_following_46
    · skip
      refine v_lload_n (pc := 14) C dX0_following_14 rfl 1 rfl ?_
      refine v_lload_n (pc := 15) C dX0_following_15 rfl 3 rfl ?_
      refine v_iload (pc := 16) C dX0_following_16 0 rfl ?_
      refine v_lushr (v := (w.toUInt64 >>> ((nI i).toInt64.toUInt64 &&& Int64.toUInt64 63)).toInt64) (pc := 18) C dX0_following_18 rfl ?_
      refine v_lconst (pc := 19) C dX0_following_19 cl_1 ?_
      refine v_land (pc := 20) C dX0_following_20 ?_
      refine v_lconst (pc := 21) C dX0_following_21 cl_0 ?_
      refine v_lc_eq (pc := 22) (tgt := 36) C dX0_following_22 dX0_following_23 (by decide) (fun h22 => ?_) (fun h22 => ?_)
      · skip
        have h22 := (lb_tst (by omega)).mp h22
        refine v_lconst (pc := 36) C dX0_following_36 cl_0 ?_
        refine v_lorE (v := flw σ.fol w (i + 1)) (pc := 37) C dX0_following_37 (show flw σ.fol w i ||| 0 = flw σ.fol w (i + 1) by rw [flw, if_neg (by rw [h22]; decide)]) ?_
        refine v_lstore_n (pc := 38) C dX0_following_38 rfl (by decide) (lv' := [(3, .long (flw σ.fol w (i + 1))), (5, .int (nI i)), (0, .ref (ad 0)), (1, .long w)]) rfl ?_
        refine v_iinc (pc := 39) C dX0_following_39 1 rfl (v_inc i) (by decide) (lv' := [(5, .int (nI (i + 1))), (3, .long (flw σ.fol w (i + 1))), (0, .ref (ad 0)), (1, .long w)]) rfl ?_
        refine v_goto (tgt := 5) (pc := 42) C dX0_following_42 (by decide) ?_
        exact v_sub [0, 1, 2, 3] rfl (ih h11)
      · skip
        have h22 := (lb_tst' (by omega)).mp h22
        refine v_aload_n (pc := 26) C dX0_following_26 rfl 2 rfl ?_
        refine gxs_fol (pc := 27) C dX0_following_27 ?_
        refine v_iload (pc := 30) C dX0_following_30 0 rfl ?_
        refine lxs_fol (pc := 32) (j := i) (v := σ.fol i) C rfl (by omega) dX0_following_32 ?_
        refine v_goto (tgt := 37) (pc := 33) C dX0_following_33 (by decide) ?_
        refine v_lorE (v := flw σ.fol w (i + 1)) (pc := 37) C dX0_following_37 (show flw σ.fol w i ||| σ.fol i = flw σ.fol w (i + 1) by rw [flw, if_pos h22]) ?_
        refine v_lstore_n (pc := 38) C dX0_following_38 rfl (by decide) (lv' := [(3, .long (flw σ.fol w (i + 1))), (5, .int (nI i)), (0, .ref (ad 0)), (1, .long w)]) rfl ?_
        refine v_iinc (pc := 39) C dX0_following_39 1 rfl (v_inc i) (by decide) (lv' := [(5, .int (nI (i + 1))), (3, .long (flw σ.fol w (i + 1))), (0, .ref (ad 0)), (1, .long w)]) rfl ?_
        refine v_goto (tgt := 5) (pc := 42) C dX0_following_42 (by decide) ?_
        exact v_sub [0, 1, 2, 3] rfl (ih h11)
  refine v_lconst (pc := 0) C dX0_following_0 cl_0 ?_
  refine v_lstore_n (pc := 1) C dX0_following_1 rfl (by decide) (lv' := [(3, .long 0), (0, .ref (ad 0)), (1, .long w)]) rfl ?_
  refine v_iconst (pc := 2) C dX0_following_2 ci_0 ?_
  refine v_istore (pc := 3) C dX0_following_3 (by decide) (lv' := [(5, .int (nI 0)), (3, .long 0), (0, .ref (ad 0)), (1, .long w)]) rfl ?_
  exact L 0 (Nat.zero_le _)
set_option maxHeartbeats 4000000 in
theorem met_x_allFirst {l : Launch} {D : va_G} {ad : Nat → Nat} {ci cj cz : ClassId} (σ : XS) (hr : σ.rul ≤ 5) : vMl l D (vTy ci cj cz) yX0_allFirst cX0_allFirst 4 0 [.ref (ad 0)] (xW ad ci cj cz σ) ad 15 (fun r u => r = orA σ.rf σ.rul ∧ u = σ) (xW ad ci cj cz) := by
  refine vMl_of (by decide) (Nat.le_of_ble_eq_true rfl) xW_at ?_
  intro X C E
  have C : vC X cX0_allFirst RX0 4 (vTy ci cj cz) (vRm 0) ad 15 := C
  refine v_lv (lv' := [(0, .ref (ad 0))]) rfl ?_
  have L : ∀ i, i ≤ σ.rul → vV X (xW ad ci cj cz σ) 4 [(3, .int (nI i)), (1, .long (orA σ.rf i)), (0, .ref (ad 0))] [] := by
    refine lp_up (fun i hi ih => ?_)
    refine v_iload_n (pc := 4) C dX0_allFirst_4 rfl 0 rfl ?_
    refine v_aload_n (pc := 5) C dX0_allFirst_5 rfl 2 rfl ?_
    refine gxs_rul (pc := 6) (v := σ.rul) C rfl dX0_allFirst_6 ?_
    refine v_icmp_geN (pc := 9) (tgt := 27) C dX0_allFirst_9 (by decide) (by omega) (by omega) (fun h9 => ?_) (fun h9 => ?_)
    · skip
      have hi2 : i = σ.rul := by omega
      subst hi2
      refine v_lload_n (pc := 27) C dX0_allFirst_27 rfl 1 rfl ?_
      exact v_lret (pc := 28) C E σ rfl ⟨rfl, rfl⟩ dX0_allFirst_28
    · skip
      refine v_lload_n (pc := 12) C dX0_allFirst_12 rfl 1 rfl ?_
      refine v_aload_n (pc := 13) C dX0_allFirst_13 rfl 2 rfl ?_
      refine gxs_rf (pc := 14) C dX0_allFirst_14 ?_
      refine v_iload_n (pc := 17) C dX0_allFirst_17 rfl 0 rfl ?_
      refine lxs_rf (pc := 18) (j := i) (v := σ.rf i) C rfl (by omega) dX0_allFirst_18 ?_
      refine v_lorE (v := orA σ.rf (i + 1)) (pc := 19) C dX0_allFirst_19 rfl ?_
      refine v_lstore_n (pc := 20) C dX0_allFirst_20 rfl (by decide) (lv' := [(1, .long (orA σ.rf (i + 1))), (3, .int (nI i)), (0, .ref (ad 0))]) rfl ?_
      refine v_iinc (pc := 21) C dX0_allFirst_21 1 rfl (v_inc i) (by decide) (lv' := [(3, .int (nI (i + 1))), (1, .long (orA σ.rf (i + 1))), (0, .ref (ad 0))]) rfl ?_
      refine v_goto (tgt := 4) (pc := 24) C dX0_allFirst_24 (by decide) ?_
      exact ih h9
  refine v_lconst (pc := 0) C dX0_allFirst_0 cl_0 ?_
  refine v_lstore_n (pc := 1) C dX0_allFirst_1 rfl (by decide) (lv' := [(1, .long 0), (0, .ref (ad 0))]) rfl ?_
  refine v_iconst (pc := 2) C dX0_allFirst_2 ci_0 ?_
  refine v_istore_n (pc := 3) C dX0_allFirst_3 rfl (by decide) (lv' := [(3, .int (nI 0)), (1, .long 0), (0, .ref (ad 0))]) rfl ?_
  exact L 0 (Nat.zero_le _)
set_option maxHeartbeats 4000000 in
theorem met_x_findState {l : Launch} {D : va_G} {ad : Nat → Nat} {ci cj cz : ClassId} (σ : XS) (w : Int64) (h1 : 1 ≤ σ.sts) (hs : σ.sts ≤ 48) : vMi l D (vTy ci cj cz) yX0_findState cX0_findState 4 (some .int) 0 [.ref (ad 0), .long w] (xW ad ci cj cz σ) ad 15 (fun r u => r = lu (fun k => decide (σ.sset k = w)) (σ.sts - 1) 1 ∧ u = σ) (xW ad ci cj cz) := by
  refine vMi_of (by decide) (Nat.le_of_ble_eq_true rfl) xW_at ?_
  intro X C E
  have C : vC X cX0_findState RX0 4 (vTy ci cj cz) (vRm 0) ad 15 := C
  refine v_lv (lv' := [(0, .ref (ad 0)), (1, .long w)]) rfl ?_
  have L : ∀ i, i ≤ σ.sts → 1 ≤ i → lu (fun k => decide (σ.sset k = w)) (σ.sts - i) i = lu (fun k => decide (σ.sset k = w)) (σ.sts - 1) 1 → vV X (xW ad ci cj cz σ) 2 [(3, .int (nI i)), (0, .ref (ad 0)), (1, .long w)] [] := by
    refine lp_up (fun i hi ih => ?_)
    intro hi1 hlu
    refine v_iload_n (pc := 2) C dX0_findState_2 rfl 0 rfl ?_
    refine v_aload_n (pc := 3) C dX0_findState_3 rfl 1 rfl ?_
    refine gxs_sts (pc := 4) (v := σ.sts) C rfl dX0_findState_4 ?_
    refine v_icmp_geN (pc := 7) (tgt := 29) C dX0_findState_7 (by decide) (by omega) (by omega) (fun h7 => ?_) (fun h7 => ?_)
    · skip
      have hi2 : σ.sts - i = 0 := by omega
      rw [hi2] at hlu
      refine v_iconst (pc := 29) C dX0_findState_29 ci_m1 ?_
      exact v_iret (pc := 30) C E σ rfl ⟨hlu, rfl⟩ dX0_findState_30
    · skip
      obtain ⟨m, hm⟩ : ∃ m, σ.sts - i = m + 1 := ⟨σ.sts - i - 1, by omega⟩
      rw [hm, lu] at hlu
      refine v_aload_n (pc := 10) C dX0_findState_10 rfl 1 rfl ?_
      refine gxs_sset (pc := 11) C dX0_findState_11 ?_
      refine v_iload_n (pc := 14) C dX0_findState_14 rfl 0 rfl ?_
      refine lxs_sset (pc := 15) (j := i) (v := σ.sset i) C rfl (by omega) dX0_findState_15 ?_
      refine v_lload_n (pc := 16) C dX0_findState_16 rfl 2 rfl ?_
      refine v_lc_ne (pc := 17) (tgt := 23) C dX0_findState_17 dX0_findState_18 (by decide) (fun h17 => ?_) (fun h17 => ?_)
      · skip
        rw [if_neg (by simp [h17])] at hlu
        refine v_iinc (pc := 23) C dX0_findState_23 0 rfl (v_inc i) (by decide) (lv' := [(3, .int (nI (i + 1))), (0, .ref (ad 0)), (1, .long w)]) rfl ?_
        refine v_goto (tgt := 2) (pc := 26) C dX0_findState_26 (by decide) ?_
        exact ih h7 (by omega) (by rw [show σ.sts - (i + 1) = m by omega]; exact hlu)
      · skip
        rw [if_pos (by simp [h17])] at hlu
        refine v_iload_n (pc := 21) C dX0_findState_21 rfl 0 rfl ?_
        exact v_iret (pc := 22) C E σ rfl ⟨hlu, rfl⟩ dX0_findState_22
  refine v_iconst (pc := 0) C dX0_findState_0 ci_1 ?_
  refine v_istore_n (pc := 1) C dX0_findState_1 rfl (by decide) (lv' := [(3, .int (nI 1)), (0, .ref (ad 0)), (1, .long w)]) rfl ?_
  exact L 1 h1 (Nat.le_refl _) rfl
abbrev x_push (σ : XS) (f l : Int64) (b : Bool) : XS := xs_stk (xs_em (xs_la (xs_fi σ (vp_updL σ.fi σ.stk f)) (vp_updL σ.la σ.stk l)) (upB σ.em σ.stk b)) (σ.stk + 1)
set_option maxHeartbeats 4000000 in
theorem met_x_push {l : Launch} {D : va_G} {ad : Nat → Nat} {ci cj cz : ClassId} (σ : XS) (f l9 : Int64) (b : Bool) (hs : σ.stk < 40) : vMv l D (vTy ci cj cz) yX0_push cX0_push 6 0 [.ref (ad 0), .long f, .long l9, .int (bI b)] (xW ad ci cj cz σ) ad 15 (fun u => u = x_push σ f l9 b) (xW ad ci cj cz) := by
  refine vMv_of (by decide) (Nat.le_of_ble_eq_true rfl) xW_at ?_
  intro X C E
  have C : vC X cX0_push RX0 6 (vTy ci cj cz) (vRm 0) ad 15 := C
  refine v_lv (lv' := [(0, .ref (ad 0)), (1, .long f), (3, .long l9), (5, .int (bI b))]) rfl ?_
  refine v_aload_n (pc := 0) C dX0_push_0 rfl 0 rfl ?_
  refine gxs_fi (pc := 1) C dX0_push_1 ?_
  refine v_aload_n (pc := 4) C dX0_push_4 rfl 0 rfl ?_
  refine gxs_stk (pc := 5) (v := σ.stk) C rfl dX0_push_5 ?_
  refine v_lload_n (pc := 8) C dX0_push_8 rfl 1 rfl ?_
  refine sxs_fi (pc := 9) (j := σ.stk) (x := f) C (by omega) dX0_push_9 ?_
  refine v_aload_n (pc := 10) C dX0_push_10 rfl 0 rfl ?_
  refine gxs_la (pc := 11) C dX0_push_11 ?_
  refine v_aload_n (pc := 14) C dX0_push_14 rfl 0 rfl ?_
  refine gxs_stk (pc := 15) (v := σ.stk) C rfl dX0_push_15 ?_
  refine v_lload_n (pc := 18) C dX0_push_18 rfl 2 rfl ?_
  refine sxs_la (pc := 19) (j := σ.stk) (x := l9) C (by omega) dX0_push_19 ?_
  refine v_aload_n (pc := 20) C dX0_push_20 rfl 0 rfl ?_
  refine gxs_em (pc := 21) C dX0_push_21 ?_
  refine v_aload_n (pc := 24) C dX0_push_24 rfl 0 rfl ?_
  refine gxs_stk (pc := 25) (v := σ.stk) C rfl dX0_push_25 ?_
  refine v_iload (pc := 28) C dX0_push_28 3 rfl ?_
  refine sxs_em (pc := 30) (j := σ.stk) (x := b) C (by omega) dX0_push_30 ?_
  refine v_aload_n (pc := 31) C dX0_push_31 rfl 0 rfl ?_
  refine v_dup (pc := 32) C dX0_push_32 rfl ?_
  refine gxs_stk (pc := 33) (v := σ.stk) C rfl dX0_push_33 ?_
  refine v_iconst (pc := 36) C dX0_push_36 ci_1 ?_
  refine v_iaddN (pc := 37) C dX0_push_37 ?_
  refine pxs_stk (pc := 38) (v := σ.stk + 1) C dX0_push_38 ?_
  exact v_vret (pc := 41) C E (xs_stk (xs_em (xs_la (xs_fi σ (vp_updL σ.fi σ.stk f)) (vp_updL σ.la σ.stk l9)) (upB σ.em σ.stk b)) (σ.stk + 1)) rfl rfl dX0_push_41
set_option maxHeartbeats 4000000 in
theorem met_x_lead {l : Launch} {D : va_G} {ad : Nat → Nat} {ci cj cz : ClassId} (σ : XS) (f t : Int64) (hp : σ.pl ≤ 40) : vMv l D (vTy ci cj cz) yX0_lead cX0_lead 6 0 [.ref (ad 0), .long f, .long t] (xW ad ci cj cz σ) ad 15 (fun u => u = xs_fol σ (ldF σ.fol f t σ.pl)) (xW ad ci cj cz) := by
  refine vMv_of (by decide) (Nat.le_of_ble_eq_true rfl) xW_at ?_
  intro X C E
  have C : vC X cX0_lead RX0 6 (vTy ci cj cz) (vRm 0) ad 15 := C
  refine v_lv (lv' := [(0, .ref (ad 0)), (1, .long f), (3, .long t)]) rfl ?_
  have L : ∀ i, i ≤ σ.pl → vV X (xW ad ci cj cz (xs_fol σ (ldF σ.fol f t i))) 3 [(5, .int (nI i)), (0, .ref (ad 0)), (1, .long f), (3, .long t)] [] := by
    refine lp_up (fun i hi ih => ?_)
    refine v_iload (pc := 3) C dX0_lead_3 0 rfl ?_
    refine v_aload_n (pc := 5) C dX0_lead_5 rfl 1 rfl ?_
    refine gxs_pl (pc := 6) (v := σ.pl) C rfl dX0_lead_6 ?_
    refine v_icmp_geN (pc := 9) (tgt := 40) C dX0_lead_9 (by decide) (by omega) (by omega) (fun h9 => ?_) (fun h9 => ?_)
    · skip
      have hi2 : i = σ.pl := by omega
      subst hi2
      exact v_vret (pc := 40) C E (xs_fol σ (ldF σ.fol f t σ.pl)) rfl rfl dX0_lead_40
    · skip
      refine v_lload_n (pc := 12) C dX0_lead_12 rfl 2 rfl ?_
      refine v_iload (pc := 13) C dX0_lead_13 0 rfl ?_
      refine v_lushr (v := (f.toUInt64 >>> ((nI i).toInt64.toUInt64 &&& Int64.toUInt64 63)).toInt64) (pc := 15) C dX0_lead_15 rfl ?_
      refine v_lconst (pc := 16) C dX0_lead_16 cl_1 ?_
      refine v_land (pc := 17) C dX0_lead_17 ?_
      refine v_lconst (pc := 18) C dX0_lead_18 cl_0 ?_
      refine v_lc_eq (pc := 19) (tgt := 34) C dX0_lead_19 dX0_lead_20 (by decide) (fun h19 => ?_) (fun h19 => ?_)
      · skip
        have h19 := (lb_tst (by omega)).mp h19
        have e : ldF σ.fol f t (i + 1) = ldF σ.fol f t i := by rw [ldF, if_neg (by rw [h19]; decide)]
        refine v_iinc (pc := 34) C dX0_lead_34 0 rfl (v_inc i) (by decide) (lv' := [(5, .int (nI (i + 1))), (0, .ref (ad 0)), (1, .long f), (3, .long t)]) rfl ?_
        refine v_goto (tgt := 3) (pc := 37) C dX0_lead_37 (by decide) ?_
        have ih := ih h9
        rw [e] at ih
        exact ih
      · skip
        have h19 := (lb_tst' (by omega)).mp h19
        have e : ldF σ.fol f t (i + 1) = vp_updL (ldF σ.fol f t i) i (ldF σ.fol f t i i ||| t) := by rw [ldF, if_pos h19]
        refine v_aload_n (pc := 23) C dX0_lead_23 rfl 1 rfl ?_
        refine gxs_fol (pc := 24) C dX0_lead_24 ?_
        refine v_iload (pc := 27) C dX0_lead_27 0 rfl ?_
        refine v_dup2 (pc := 29) C dX0_lead_29 rfl rfl ?_
        refine lxs_fol (pc := 30) (j := i) (v := (ldF σ.fol f t i) i) C rfl (by omega) dX0_lead_30 ?_
        refine v_lload_n (pc := 31) C dX0_lead_31 rfl 3 rfl ?_
        refine v_lor (pc := 32) C dX0_lead_32 ?_
        refine sxs_fol (pc := 33) (j := i) (x := ((ldF σ.fol f t i) i) ||| t) C (by omega) dX0_lead_33 ?_
        refine v_iinc (pc := 34) C dX0_lead_34 0 rfl (v_inc i) (by decide) (lv' := [(5, .int (nI (i + 1))), (0, .ref (ad 0)), (1, .long f), (3, .long t)]) rfl ?_
        refine v_goto (tgt := 3) (pc := 37) C dX0_lead_37 (by decide) ?_
        have ih := ih h9
        rw [e] at ih
        exact ih
  refine v_iconst (pc := 0) C dX0_lead_0 ci_0 ?_
  refine v_istore (pc := 1) C dX0_lead_1 (by decide) (lv' := [(5, .int (nI 0)), (0, .ref (ad 0)), (1, .long f), (3, .long t)]) rfl ?_
  exact L 0 (Nat.zero_le _)
set_option maxHeartbeats 4000000 in
theorem met_x_erase {l : Launch} {D : va_G} {ad : Nat → Nat} {ci cj cz : ClassId} (σ : XS)  : vMv l D (vTy ci cj cz) yX0_erase cX0_erase 1 0 [.ref (ad 0)] (xW ad ci cj cz σ) ad 15 (fun u => u = xs_tl σ 0) (xW ad ci cj cz) := by
  refine vMv_of (by decide) (Nat.le_of_ble_eq_true rfl) xW_at ?_
  intro X C E
  have C : vC X cX0_erase RX0 1 (vTy ci cj cz) (vRm 0) ad 15 := C
  refine v_lv (lv' := [(0, .ref (ad 0))]) rfl ?_
  refine v_aload_n (pc := 0) C dX0_erase_0 rfl 0 rfl ?_
  refine v_iconst (pc := 1) C dX0_erase_1 ci_0 ?_
  refine pxs_tl (pc := 2) (v := 0) C dX0_erase_2 ?_
  exact v_vret (pc := 5) C E (xs_tl σ 0) rfl rfl dX0_erase_5
def a3 (x : Int32) : Nat := x.toBitVec.toNat % 4
theorem a3_and (x : Int32) : x &&& nI 3 = nI (a3 x) := pk_and x 2 (by decide)
theorem a3_lt (x : Int32) : a3 x < 4 := Nat.mod_lt _ (by decide)
set_option maxHeartbeats 4000000 in
theorem met_x_type {l : Launch} {D : va_G} {ad : Nat → Nat} {ci cj cz : ClassId} (σ : XS) (x : Int32) (ht : σ.tl ≤ 30) : vMi l D (vTy ci cj cz) yX0_type cX0_type 2 (some .int) 0 [.ref (ad 0), .int x] (xW ad ci cj cz σ) ad 15 (fun r u => (30 ≤ σ.tl ∧ r = -1 ∧ u = σ) ∨ (σ.tl < 30 ∧ r = nI (σ.tl + 1) ∧ u = xs_tl (xs_txt σ (upN σ.txt σ.tl (a3 x))) (σ.tl + 1))) (xW ad ci cj cz) := by
  refine vMi_of (by decide) (Nat.le_of_ble_eq_true rfl) xW_at ?_
  intro X C E
  have C : vC X cX0_type RX0 2 (vTy ci cj cz) (vRm 0) ad 15 := C
  refine v_lv (lv' := [(0, .ref (ad 0)), (1, .int x)]) rfl ?_
  refine v_aload_n (pc := 0) C dX0_type_0 rfl 0 rfl ?_
  refine gxs_tl (pc := 1) (v := σ.tl) C rfl dX0_type_1 ?_
  refine v_bipush (pc := 4) C dX0_type_4 cb_30 ?_
  refine v_icmp_ltN (pc := 6) (tgt := 11) C dX0_type_6 (by decide) (by omega) (by omega) (fun h6 => ?_) (fun h6 => ?_)
  · skip
    refine v_aload_n (pc := 11) C dX0_type_11 rfl 0 rfl ?_
    refine gxs_txt (pc := 12) C dX0_type_12 ?_
    refine v_aload_n (pc := 15) C dX0_type_15 rfl 0 rfl ?_
    refine gxs_tl (pc := 16) (v := σ.tl) C rfl dX0_type_16 ?_
    refine v_iload_n (pc := 19) C dX0_type_19 rfl 1 rfl ?_
    refine v_iconst (pc := 20) C dX0_type_20 ci_3 ?_
    refine v_iandE (v := nI (a3 x)) (pc := 21) C dX0_type_21 (a3_and x) ?_
    refine sxs_txt (pc := 22) (j := σ.tl) (x := a3 x) C (by omega) dX0_type_22 ?_
    refine v_aload_n (pc := 23) C dX0_type_23 rfl 0 rfl ?_
    refine v_dup (pc := 24) C dX0_type_24 rfl ?_
    refine gxs_tl (pc := 25) (v := σ.tl) C rfl dX0_type_25 ?_
    refine v_iconst (pc := 28) C dX0_type_28 ci_1 ?_
    refine v_iaddN (pc := 29) C dX0_type_29 ?_
    refine pxs_tl (pc := 30) (v := σ.tl + 1) C dX0_type_30 ?_
    refine v_aload_n (pc := 33) C dX0_type_33 rfl 0 rfl ?_
    refine gxs_tl (pc := 34) (v := σ.tl + 1) C rfl dX0_type_34 ?_
    exact v_iret (pc := 37) C E (xs_tl (xs_txt σ (upN σ.txt σ.tl (a3 x))) (σ.tl + 1)) rfl (Or.inr ⟨h6, rfl, rfl⟩) dX0_type_37
  · skip
    refine v_iconst (pc := 9) C dX0_type_9 ci_m1 ?_
    exact v_iret (pc := 10) C E σ rfl (Or.inl ⟨h6, rfl, rfl⟩) dX0_type_10
end XL
end
section
set_option maxRecDepth 100000
section XT
theorem nI_m1 {k : Nat} (h : k < 2 ^ 30) : nI k - 1 < 0 ↔ k = 0 := by
  constructor
  · intro q
    cases k with
    | zero => rfl
    | succ j => rw [nI_pred] at q; exact absurd q (nI_pos (by omega))
  · intro q
    subst q
    decide
abbrev x_empty (σ : XS) : XS := xs_nxt (xs_ends (xs_sset (xs_sts σ 1) (vp_updL σ.sset 0 0)) (upd σ.ends 0 (lu σ.re σ.rul 0))) (fiI σ.nxt 0 (-1) 4)
abbrev x_make (σ : XS) (w : Int64) : XS := xs_nxt (xs_ends (xs_sset (xs_sts σ (σ.sts + 1)) (vp_updL σ.sset σ.sts w)) (upd σ.ends σ.sts (lu (fun r => decide (¬ w &&& σ.rl r = 0)) σ.rul 0))) (fiI σ.nxt (4 * σ.sts) (-1) 4)
set_option maxHeartbeats 4000000 in
theorem met_x_emptyTable {l : Launch} {D : va_G} {ad : Nat → Nat} {ci cj cz : ClassId} (σ : XS) (hr : σ.rul ≤ 5) : vMv l D (vTy ci cj cz) yX0_emptyTable cX0_emptyTable 2 0 [.ref (ad 0)] (xW ad ci cj cz σ) ad 15 (fun u => u = x_empty σ) (xW ad ci cj cz) := by
  refine vMv_of (by decide) (Nat.le_of_ble_eq_true rfl) xW_at ?_
  intro X C E
  have C : vC X cX0_emptyTable RX0 2 (vTy ci cj cz) (vRm 0) ad 15 := C
  refine v_lv (lv' := [(0, .ref (ad 0))]) rfl ?_
  have L2 : ∀ i, i ≤ 4 → vV X (xW ad ci cj cz (xs_nxt (xs_ends (xs_sset (xs_sts σ 1) (vp_updL σ.sset 0 0)) (upd σ.ends 0 (lu σ.re σ.rul 0))) (fiI σ.nxt 0 (-1) i))) 63 [(1, .int (nI i)), (0, .ref (ad 0))] [] := by
    refine lp_up (fun i hi ih => ?_)
    refine v_iload_n (pc := 63) C dX0_emptyTable_63 rfl 0 rfl ?_
    refine v_iconst (pc := 64) C dX0_emptyTable_64 ci_4 ?_
    refine v_icmp_geN (pc := 65) (tgt := 81) C dX0_emptyTable_65 (by decide) (by omega) (by omega) (fun h65 => ?_) (fun h65 => ?_)
    · skip
      have e4 : i = 4 := by omega
      subst e4
      exact v_vret (pc := 81) C E (x_empty σ) rfl rfl dX0_emptyTable_81
    · skip
      refine v_aload_n (pc := 68) C dX0_emptyTable_68 rfl 1 rfl ?_
      refine gxs_nxt (pc := 69) C dX0_emptyTable_69 ?_
      refine v_iload_n (pc := 72) C dX0_emptyTable_72 rfl 0 rfl ?_
      refine v_iconst (pc := 73) C dX0_emptyTable_73 ci_m1 ?_
      refine sxs_nxt (pc := 74) (j := i) (x := (-1)) C (by omega) dX0_emptyTable_74 ?_
      refine v_ws (congrArg (fun z => xW ad ci cj cz (xs_nxt (xs_ends (xs_sset (xs_sts σ 1) (vp_updL σ.sset 0 0)) (upd σ.ends 0 (lu σ.re σ.rul 0))) z)) (show upd (fiI σ.nxt 0 (-1) i) i (-1) = fiI σ.nxt 0 (-1) (i + 1) by rw [fiI, Nat.zero_add])) ?_
      refine v_iinc (pc := 75) C dX0_emptyTable_75 0 rfl (v_inc i) (by decide) (lv' := [(1, .int (nI (i + 1))), (0, .ref (ad 0))]) rfl ?_
      refine v_goto (tgt := 63) (pc := 78) C dX0_emptyTable_78 (by decide) ?_
      exact ih h65
  have L1 : ∀ k, k ≤ σ.rul → vV X (xW ad ci cj cz (xs_ends (xs_sset (xs_sts σ 1) (vp_updL σ.sset 0 0)) (upd σ.ends 0 (lu σ.re (σ.rul - k) k)))) 26 [(1, .int (nI k - 1)), (0, .ref (ad 0))] [] := by
    refine lp_dn (fun k ih => ?_)
    intro hk
    refine v_iload_n (pc := 26) C dX0_emptyTable_26 rfl 0 rfl ?_
    refine v_if_lt (pc := 27) (tgt := 61) C dX0_emptyTable_27 (by decide) (fun h27 => ?_) (fun h27 => ?_)
    · skip
      have e0 := (nI_m1 (by omega)).mp h27
      subst e0
      refine v_iconst (pc := 61) C dX0_emptyTable_61 ci_0 ?_
      refine v_istore_n (pc := 62) C dX0_emptyTable_62 rfl (by decide) (lv' := [(1, .int (nI 0)), (0, .ref (ad 0))]) rfl ?_
      exact L2 0 (Nat.zero_le _)
    · skip
      have hk0 : ¬ k = 0 := fun q => h27 ((nI_m1 (by omega)).mpr q)
      obtain ⟨j, rfl⟩ : ∃ j, k = j + 1 := ⟨k - 1, by omega⟩
      refine v_lv (lv' := [(1, .int (nI j)), (0, .ref (ad 0))]) (by rw [nI_pred]) ?_
      have em : σ.rul - j = (σ.rul - (j + 1)) + 1 := by omega
      refine v_aload_n (pc := 30) C dX0_emptyTable_30 rfl 1 rfl ?_
      refine gxs_ends (pc := 31) C dX0_emptyTable_31 ?_
      refine v_iconst (pc := 34) C dX0_emptyTable_34 ci_0 ?_
      refine v_aload_n (pc := 35) C dX0_emptyTable_35 rfl 1 rfl ?_
      refine gxs_re (pc := 36) C dX0_emptyTable_36 ?_
      refine v_iload_n (pc := 39) C dX0_emptyTable_39 rfl 0 rfl ?_
      refine lxs_re (pc := 40) (j := j) (v := σ.re j) C rfl (by omega) dX0_emptyTable_40 ?_
      refine v_if_eqB (pc := 41) (tgt := 48) C dX0_emptyTable_41 (by decide) (fun h41 => ?_) (fun h41 => ?_)
      · skip
        refine v_aload_n (pc := 48) C dX0_emptyTable_48 rfl 1 rfl ?_
        refine gxs_ends (pc := 49) C dX0_emptyTable_49 ?_
        refine v_iconst (pc := 52) C dX0_emptyTable_52 ci_0 ?_
        refine lxs_ends (pc := 53) (j := 0) (v := lu σ.re (σ.rul - (j + 1)) (j + 1)) C (show upd σ.ends 0 (lu σ.re (σ.rul - (j + 1)) (j + 1)) 0 = _ from pk_us) (by omega) dX0_emptyTable_53 ?_
        refine sxs_ends (pc := 54) (j := 0) (x := lu σ.re (σ.rul - (j + 1)) (j + 1)) C (by omega) dX0_emptyTable_54 ?_
        refine v_ws (congrArg (fun z9 => xW ad ci cj cz (xs_ends (xs_sset (xs_sts σ 1) (vp_updL σ.sset 0 0)) z9)) (show upd (upd σ.ends 0 (lu σ.re (σ.rul - (j + 1)) (j + 1))) 0 _ = upd σ.ends 0 (lu σ.re (σ.rul - j) j) by rw [upd_upd, em, lu]; first | rw [if_pos h41] | rw [if_neg (by rw [h41]; decide)])) ?_
        refine v_iinc (pc := 55) C dX0_emptyTable_55 0 rfl (v_dec j) (by decide) (lv' := [(1, .int (nI j - 1)), (0, .ref (ad 0))]) rfl ?_
        refine v_goto (tgt := 26) (pc := 58) C dX0_emptyTable_58 (by decide) ?_
        exact ih j rfl (by omega)
      · skip
        refine v_iload_n (pc := 44) C dX0_emptyTable_44 rfl 0 rfl ?_
        refine v_goto (tgt := 54) (pc := 45) C dX0_emptyTable_45 (by decide) ?_
        refine sxs_ends (pc := 54) (j := 0) (x := nI j) C (by omega) dX0_emptyTable_54 ?_
        refine v_ws (congrArg (fun z9 => xW ad ci cj cz (xs_ends (xs_sset (xs_sts σ 1) (vp_updL σ.sset 0 0)) z9)) (show upd (upd σ.ends 0 (lu σ.re (σ.rul - (j + 1)) (j + 1))) 0 _ = upd σ.ends 0 (lu σ.re (σ.rul - j) j) by rw [upd_upd, em, lu]; first | rw [if_pos h41] | rw [if_neg (by rw [h41]; decide)])) ?_
        refine v_iinc (pc := 55) C dX0_emptyTable_55 0 rfl (v_dec j) (by decide) (lv' := [(1, .int (nI j - 1)), (0, .ref (ad 0))]) rfl ?_
        refine v_goto (tgt := 26) (pc := 58) C dX0_emptyTable_58 (by decide) ?_
        exact ih j rfl (by omega)
  refine v_aload_n (pc := 0) C dX0_emptyTable_0 rfl 0 rfl ?_
  refine v_iconst (pc := 1) C dX0_emptyTable_1 ci_1 ?_
  refine pxs_sts (pc := 2) (v := 1) C dX0_emptyTable_2 ?_
  refine v_aload_n (pc := 5) C dX0_emptyTable_5 rfl 0 rfl ?_
  refine gxs_sset (pc := 6) C dX0_emptyTable_6 ?_
  refine v_iconst (pc := 9) C dX0_emptyTable_9 ci_0 ?_
  refine v_lconst (pc := 10) C dX0_emptyTable_10 cl_0 ?_
  refine sxs_sset (pc := 11) (j := 0) (x := 0) C (by omega) dX0_emptyTable_11 ?_
  refine v_aload_n (pc := 12) C dX0_emptyTable_12 rfl 0 rfl ?_
  refine gxs_ends (pc := 13) C dX0_emptyTable_13 ?_
  refine v_iconst (pc := 16) C dX0_emptyTable_16 ci_0 ?_
  refine v_iconst (pc := 17) C dX0_emptyTable_17 ci_m1 ?_
  refine sxs_ends (pc := 18) (j := 0) (x := (-1)) C (by omega) dX0_emptyTable_18 ?_
  refine v_aload_n (pc := 19) C dX0_emptyTable_19 rfl 0 rfl ?_
  refine gxs_rul (pc := 20) (v := σ.rul) C rfl dX0_emptyTable_20 ?_
  refine v_iconst (pc := 23) C dX0_emptyTable_23 ci_1 ?_
  refine v_isubE (v := nI σ.rul - 1) (pc := 24) C dX0_emptyTable_24 rfl ?_
  refine v_istore_n (pc := 25) C dX0_emptyTable_25 rfl (by decide) (lv' := [(1, .int (nI σ.rul - 1)), (0, .ref (ad 0))]) rfl ?_
  have L := L1 σ.rul (Nat.le_refl _)
  rw [Nat.sub_self] at L
  exact L
end XT
end
section
set_option maxRecDepth 100000
section XT
set_option maxHeartbeats 4000000 in
theorem met_x_makeState {l : Launch} {D : va_G} {ad : Nat → Nat} {ci cj cz : ClassId} (σ : XS) (z : Int64) (hs : σ.sts < 48) (hr : σ.rul ≤ 5) : vMi l D (vTy ci cj cz) yX0_makeState cX0_makeState 5 (some .int) 0 [.ref (ad 0), .long z] (xW ad ci cj cz σ) ad 15 (fun r u => r = nI σ.sts ∧ u = x_make σ z) (xW ad ci cj cz) := by
  refine vMi_of (by decide) (Nat.le_of_ble_eq_true rfl) xW_at ?_
  intro X C E
  have C : vC X cX0_makeState RX0 5 (vTy ci cj cz) (vRm 0) ad 15 := C
  refine v_lv (lv' := [(0, .ref (ad 0)), (1, .long z)]) rfl ?_
  have L2 : ∀ i, i ≤ 4 → vV X (xW ad ci cj cz (xs_nxt (xs_ends (xs_sset (xs_sts σ (σ.sts + 1)) (vp_updL σ.sset σ.sts z)) (upd σ.ends σ.sts (lu (fun r => decide (¬ z &&& σ.rl r = 0)) σ.rul 0))) (fiI σ.nxt (4 * σ.sts) (-1) i))) 82 [(4, .int (nI i)), (3, .int (nI σ.sts)), (0, .ref (ad 0)), (1, .long z)] [] := by
    refine lp_up (fun i hi ih => ?_)
    refine v_iload (pc := 82) C dX0_makeState_82 0 rfl ?_
    refine v_iconst (pc := 84) C dX0_makeState_84 ci_4 ?_
    refine v_icmp_geN (pc := 85) (tgt := 106) C dX0_makeState_85 (by decide) (by omega) (by omega) (fun h85 => ?_) (fun h85 => ?_)
    · skip
      have e4 : i = 4 := by omega
      subst e4
      refine v_iload_n (pc := 106) C dX0_makeState_106 rfl 1 rfl ?_
      exact v_iret (pc := 107) C E (x_make σ z) rfl ⟨rfl, rfl⟩ dX0_makeState_107
    · skip
      refine v_aload_n (pc := 88) C dX0_makeState_88 rfl 2 rfl ?_
      refine gxs_nxt (pc := 89) C dX0_makeState_89 ?_
      refine v_iconst (pc := 92) C dX0_makeState_92 ci_4 ?_
      refine v_iload_n (pc := 93) C dX0_makeState_93 rfl 1 rfl ?_
      refine v_imulN (pc := 94) C dX0_makeState_94 ?_
      refine v_iload (pc := 95) C dX0_makeState_95 0 rfl ?_
      refine v_iaddN (pc := 97) C dX0_makeState_97 ?_
      refine v_iconst (pc := 98) C dX0_makeState_98 ci_m1 ?_
      refine sxs_nxt (pc := 99) (j := (4 * σ.sts) + i) (x := (-1)) C (by omega) dX0_makeState_99 ?_
      skip
      refine v_iinc (pc := 100) C dX0_makeState_100 0 rfl (v_inc i) (by decide) (lv' := [(4, .int (nI (i + 1))), (3, .int (nI σ.sts)), (0, .ref (ad 0)), (1, .long z)]) rfl ?_
      refine v_goto (tgt := 82) (pc := 103) C dX0_makeState_103 (by decide) ?_
      exact ih h85
  have L1 : ∀ k, k ≤ σ.rul → vV X (xW ad ci cj cz (xs_ends (xs_sset (xs_sts σ (σ.sts + 1)) (vp_updL σ.sset σ.sts z)) (upd σ.ends σ.sts (lu (fun r => decide (¬ z &&& σ.rl r = 0)) (σ.rul - k) k)))) 37 [(4, .int (nI k - 1)), (3, .int (nI σ.sts)), (0, .ref (ad 0)), (1, .long z)] [] := by
    refine lp_dn (fun k ih => ?_)
    intro hk
    refine v_iload (pc := 37) C dX0_makeState_37 0 rfl ?_
    refine v_if_lt (pc := 39) (tgt := 79) C dX0_makeState_39 (by decide) (fun h39 => ?_) (fun h39 => ?_)
    · skip
      have e0 := (nI_m1 (by omega)).mp h39
      subst e0
      refine v_iconst (pc := 79) C dX0_makeState_79 ci_0 ?_
      refine v_istore (pc := 80) C dX0_makeState_80 (by decide) (lv' := [(4, .int (nI 0)), (3, .int (nI σ.sts)), (0, .ref (ad 0)), (1, .long z)]) rfl ?_
      exact L2 0 (Nat.zero_le _)
    · skip
      have hk0 : ¬ k = 0 := fun q => h39 ((nI_m1 (by omega)).mpr q)
      obtain ⟨j, rfl⟩ : ∃ j, k = j + 1 := ⟨k - 1, by omega⟩
      refine v_lv (lv' := [(4, .int (nI j)), (3, .int (nI σ.sts)), (0, .ref (ad 0)), (1, .long z)]) (by rw [nI_pred]) ?_
      have em : σ.rul - j = (σ.rul - (j + 1)) + 1 := by omega
      refine v_aload_n (pc := 42) C dX0_makeState_42 rfl 2 rfl ?_
      refine gxs_ends (pc := 43) C dX0_makeState_43 ?_
      refine v_iload_n (pc := 46) C dX0_makeState_46 rfl 1 rfl ?_
      refine v_lload_n (pc := 47) C dX0_makeState_47 rfl 3 rfl ?_
      refine v_aload_n (pc := 48) C dX0_makeState_48 rfl 2 rfl ?_
      refine gxs_rl (pc := 49) C dX0_makeState_49 ?_
      refine v_iload (pc := 52) C dX0_makeState_52 0 rfl ?_
      refine lxs_rl (pc := 54) (j := j) (v := σ.rl j) C rfl (by omega) dX0_makeState_54 ?_
      refine v_land (pc := 55) C dX0_makeState_55 ?_
      refine v_lconst (pc := 56) C dX0_makeState_56 cl_0 ?_
      refine v_lc_eq (pc := 57) (tgt := 66) C dX0_makeState_57 dX0_makeState_58 (by decide) (fun h57 => ?_) (fun h57 => ?_)
      · skip
        refine v_aload_n (pc := 66) C dX0_makeState_66 rfl 2 rfl ?_
        refine gxs_ends (pc := 67) C dX0_makeState_67 ?_
        refine v_iload_n (pc := 70) C dX0_makeState_70 rfl 1 rfl ?_
        refine lxs_ends (pc := 71) (j := σ.sts) (v := lu (fun r => decide (¬ z &&& σ.rl r = 0)) (σ.rul - (j + 1)) (j + 1)) C (show upd σ.ends σ.sts (lu (fun r => decide (¬ z &&& σ.rl r = 0)) (σ.rul - (j + 1)) (j + 1)) σ.sts = _ from pk_us) (by omega) dX0_makeState_71 ?_
        refine sxs_ends (pc := 72) (j := σ.sts) (x := lu (fun r => decide (¬ z &&& σ.rl r = 0)) (σ.rul - (j + 1)) (j + 1)) C (by omega) dX0_makeState_72 ?_
        refine v_ws (congrArg (fun z9 => xW ad ci cj cz (xs_ends (xs_sset (xs_sts σ (σ.sts + 1)) (vp_updL σ.sset σ.sts z)) z9)) (show upd (upd σ.ends σ.sts (lu (fun r => decide (¬ z &&& σ.rl r = 0)) (σ.rul - (j + 1)) (j + 1))) σ.sts _ = upd σ.ends σ.sts (lu (fun r => decide (¬ z &&& σ.rl r = 0)) (σ.rul - j) j) by rw [upd_upd, em, lu]; first | rw [if_pos (decide_eq_true h57)] | rw [if_neg (by simp [h57])])) ?_
        refine v_iinc (pc := 73) C dX0_makeState_73 0 rfl (v_dec j) (by decide) (lv' := [(4, .int (nI j - 1)), (3, .int (nI σ.sts)), (0, .ref (ad 0)), (1, .long z)]) rfl ?_
        refine v_goto (tgt := 37) (pc := 76) C dX0_makeState_76 (by decide) ?_
        exact ih j rfl (by omega)
      · skip
        refine v_iload (pc := 61) C dX0_makeState_61 0 rfl ?_
        refine v_goto (tgt := 72) (pc := 63) C dX0_makeState_63 (by decide) ?_
        refine sxs_ends (pc := 72) (j := σ.sts) (x := nI j) C (by omega) dX0_makeState_72 ?_
        refine v_ws (congrArg (fun z9 => xW ad ci cj cz (xs_ends (xs_sset (xs_sts σ (σ.sts + 1)) (vp_updL σ.sset σ.sts z)) z9)) (show upd (upd σ.ends σ.sts (lu (fun r => decide (¬ z &&& σ.rl r = 0)) (σ.rul - (j + 1)) (j + 1))) σ.sts _ = upd σ.ends σ.sts (lu (fun r => decide (¬ z &&& σ.rl r = 0)) (σ.rul - j) j) by rw [upd_upd, em, lu]; first | rw [if_pos (decide_eq_true h57)] | rw [if_neg (by simp [h57])])) ?_
        refine v_iinc (pc := 73) C dX0_makeState_73 0 rfl (v_dec j) (by decide) (lv' := [(4, .int (nI j - 1)), (3, .int (nI σ.sts)), (0, .ref (ad 0)), (1, .long z)]) rfl ?_
        refine v_goto (tgt := 37) (pc := 76) C dX0_makeState_76 (by decide) ?_
        exact ih j rfl (by omega)
  refine v_aload_n (pc := 0) C dX0_makeState_0 rfl 0 rfl ?_
  refine gxs_sts (pc := 1) (v := σ.sts) C rfl dX0_makeState_1 ?_
  refine v_istore_n (pc := 4) C dX0_makeState_4 rfl (by decide) (lv' := [(3, .int (nI σ.sts)), (0, .ref (ad 0)), (1, .long z)]) rfl ?_
  refine v_aload_n (pc := 5) C dX0_makeState_5 rfl 1 rfl ?_
  refine v_dup (pc := 6) C dX0_makeState_6 rfl ?_
  refine gxs_sts (pc := 7) (v := σ.sts) C rfl dX0_makeState_7 ?_
  refine v_iconst (pc := 10) C dX0_makeState_10 ci_1 ?_
  refine v_iaddN (pc := 11) C dX0_makeState_11 ?_
  refine pxs_sts (pc := 12) (v := σ.sts + 1) C dX0_makeState_12 ?_
  refine v_aload_n (pc := 15) C dX0_makeState_15 rfl 1 rfl ?_
  refine gxs_sset (pc := 16) C dX0_makeState_16 ?_
  refine v_iload_n (pc := 19) C dX0_makeState_19 rfl 0 rfl ?_
  refine v_lload_n (pc := 20) C dX0_makeState_20 rfl 2 rfl ?_
  refine sxs_sset (pc := 21) (j := σ.sts) (x := z) C (by omega) dX0_makeState_21 ?_
  refine v_aload_n (pc := 22) C dX0_makeState_22 rfl 1 rfl ?_
  refine gxs_ends (pc := 23) C dX0_makeState_23 ?_
  refine v_iload_n (pc := 26) C dX0_makeState_26 rfl 0 rfl ?_
  refine v_iconst (pc := 27) C dX0_makeState_27 ci_m1 ?_
  refine sxs_ends (pc := 28) (j := σ.sts) (x := (-1)) C (by omega) dX0_makeState_28 ?_
  refine v_aload_n (pc := 29) C dX0_makeState_29 rfl 1 rfl ?_
  refine gxs_rul (pc := 30) (v := σ.rul) C rfl dX0_makeState_30 ?_
  refine v_iconst (pc := 33) C dX0_makeState_33 ci_1 ?_
  refine v_isubE (v := nI σ.rul - 1) (pc := 34) C dX0_makeState_34 rfl ?_
  refine v_istore (pc := 35) C dX0_makeState_35 (by decide) (lv' := [(4, .int (nI σ.rul - 1)), (3, .int (nI σ.sts)), (0, .ref (ad 0)), (1, .long z)]) rfl ?_
  have L := L1 σ.rul (Nat.le_refl _)
  rw [Nat.sub_self] at L
  exact L
end XT
end
section
set_option maxRecDepth 100000
section XT
theorem pp_tst : ∀ ls, ls < 16 → ∀ l, l < 4 → (((nI ls).toUInt32 >>> ((nI l).toUInt32 &&& Int32.toUInt32 31)).toInt32 &&& nI 1) = bI (ls.testBit l) := by decide +kernel
abbrev x_pushPlace (σ : XS) (ls : Nat) : XS := x_push (xs_lp (xs_fol (xs_pl σ (σ.pl + 1)) (vp_updL σ.fol σ.pl 0)) (ppF σ.lp ls σ.pl 4)) (b1 σ.pl) (b1 σ.pl) false
set_option maxHeartbeats 4000000 in
theorem met_x_pushPlace {l : Launch} {D : va_G} {ad : Nat → Nat} {ci cj cz : ClassId} (σ : XS) (ls : Nat) (hls : ls < 16) (hp : σ.pl < 40) (hs : σ.stk < 40) : vMv l D (vTy ci cj cz) yX0_pushPlace cX0_pushPlace 4 1 [.ref (ad 0), .int (nI ls)] (xW ad ci cj cz σ) ad 15 (fun u => u = x_pushPlace σ ls) (xW ad ci cj cz) := by
  refine vMv_of (by decide) (Nat.le_of_ble_eq_true rfl) xW_at ?_
  intro X C E
  have C : vC X cX0_pushPlace RX0 4 (vTy ci cj cz) (vRm 1) ad 15 := C
  refine v_lv (lv' := [(0, .ref (ad 0)), (1, .int (nI ls))]) rfl ?_
  have L : ∀ i, i ≤ 4 → vV X (xW ad ci cj cz (xs_lp (xs_fol (xs_pl σ (σ.pl + 1)) (vp_updL σ.fol σ.pl 0)) (ppF σ.lp ls σ.pl i))) 24 [(3, .int (nI i)), (2, .int (nI σ.pl)), (0, .ref (ad 0)), (1, .int (nI ls))] [] := by
    refine lp_up (fun i hi ih => ?_)
    refine v_iload_n (pc := 24) C dX0_pushPlace_24 rfl 0 rfl ?_
    refine v_iconst (pc := 25) C dX0_pushPlace_25 ci_4 ?_
    refine v_icmp_geN (pc := 26) (tgt := 59) C dX0_pushPlace_26 (by decide) (by omega) (by omega) (fun h26 => ?_) (fun h26 => ?_)
    · skip
      have e4 : i = 4 := by omega
      subst e4
      refine v_aload_n (pc := 59) C dX0_pushPlace_59 rfl 2 rfl ?_
      refine v_lconst (pc := 60) C dX0_pushPlace_60 cl_1 ?_
      refine v_iload_n (pc := 61) C dX0_pushPlace_61 rfl 1 rfl ?_
      refine v_lshl (v := b1 σ.pl) (pc := 62) C dX0_pushPlace_62 (b1_shl (by omega)) ?_
      refine v_lconst (pc := 63) C dX0_pushPlace_63 cl_1 ?_
      refine v_iload_n (pc := 64) C dX0_pushPlace_64 rfl 1 rfl ?_
      refine v_lshl (v := b1 σ.pl) (pc := 65) C dX0_pushPlace_65 (b1_shl (by omega)) ?_
      refine v_iconst (pc := 66) C dX0_pushPlace_66 cz_0 ?_
      refine v_callv (pc := 67) C [.long (b1 σ.pl), .long (b1 σ.pl), .int (bI false)] 3 (met_x_push (xs_lp (xs_fol (xs_pl σ (σ.pl + 1)) (vp_updL σ.fol σ.pl 0)) (ppF σ.lp ls σ.pl 4)) (b1 σ.pl) (b1 σ.pl) false hs) (lw_V q112 q114 qs2 q23 q115) (by decide +kernel) (by decide) (ci := 0) (q0 := 0) rfl rfl rfl rfl (Nat.le_of_ble_eq_true rfl) dX0_pushPlace_67 (fun u hu => ?_)
      subst hu
      exact v_vret (pc := 70) C E (x_pushPlace σ ls) rfl rfl dX0_pushPlace_70
    · skip
      refine v_aload_n (pc := 29) C dX0_pushPlace_29 rfl 2 rfl ?_
      refine gxs_lp (pc := 30) C dX0_pushPlace_30 ?_
      refine v_iload_n (pc := 33) C dX0_pushPlace_33 rfl 0 rfl ?_
      refine v_dup2 (pc := 34) C dX0_pushPlace_34 rfl rfl ?_
      refine lxs_lp (pc := 35) (j := i) (v := (ppF σ.lp ls σ.pl i) i) C rfl (by omega) dX0_pushPlace_35 ?_
      refine v_iload_n (pc := 36) C dX0_pushPlace_36 rfl 3 rfl ?_
      refine v_iload_n (pc := 37) C dX0_pushPlace_37 rfl 0 rfl ?_
      refine v_iushr (v := ((nI ls).toUInt32 >>> ((nI i).toUInt32 &&& Int32.toUInt32 31)).toInt32) (pc := 38) C dX0_pushPlace_38 rfl ?_
      refine v_iconst (pc := 39) C dX0_pushPlace_39 ci_1 ?_
      refine v_iandE (v := bI (ls.testBit i)) (pc := 40) C dX0_pushPlace_40 (pp_tst ls hls i (by omega)) ?_
      refine v_if_eqB (pc := 41) (tgt := 50) C dX0_pushPlace_41 (by decide) (fun h41 => ?_) (fun h41 => ?_)
      · skip
        refine v_lconst (pc := 50) C dX0_pushPlace_50 cl_0 ?_
        refine v_lorE (v := ppF σ.lp ls σ.pl i i ||| (if ls.testBit i = true then b1 σ.pl else 0)) (pc := 51) C dX0_pushPlace_51 (by rw [if_neg (by rw [h41]; decide)]) ?_
        refine sxs_lp (pc := 52) (j := i) (x := ppF σ.lp ls σ.pl i i ||| (if ls.testBit i = true then b1 σ.pl else 0)) C (by omega) dX0_pushPlace_52 ?_
        skip
        refine v_iinc (pc := 53) C dX0_pushPlace_53 0 rfl (v_inc i) (by decide) (lv' := [(3, .int (nI (i + 1))), (2, .int (nI σ.pl)), (0, .ref (ad 0)), (1, .int (nI ls))]) rfl ?_
        refine v_goto (tgt := 24) (pc := 56) C dX0_pushPlace_56 (by decide) ?_
        exact ih h26
      · skip
        refine v_lconst (pc := 44) C dX0_pushPlace_44 cl_1 ?_
        refine v_iload_n (pc := 45) C dX0_pushPlace_45 rfl 1 rfl ?_
        refine v_lshl (v := b1 σ.pl) (pc := 46) C dX0_pushPlace_46 (b1_shl (by omega)) ?_
        refine v_goto (tgt := 51) (pc := 47) C dX0_pushPlace_47 (by decide) ?_
        refine v_lorE (v := ppF σ.lp ls σ.pl i i ||| (if ls.testBit i = true then b1 σ.pl else 0)) (pc := 51) C dX0_pushPlace_51 (by rw [if_pos h41]) ?_
        refine sxs_lp (pc := 52) (j := i) (x := ppF σ.lp ls σ.pl i i ||| (if ls.testBit i = true then b1 σ.pl else 0)) C (by omega) dX0_pushPlace_52 ?_
        skip
        refine v_iinc (pc := 53) C dX0_pushPlace_53 0 rfl (v_inc i) (by decide) (lv' := [(3, .int (nI (i + 1))), (2, .int (nI σ.pl)), (0, .ref (ad 0)), (1, .int (nI ls))]) rfl ?_
        refine v_goto (tgt := 24) (pc := 56) C dX0_pushPlace_56 (by decide) ?_
        exact ih h26
  refine v_aload_n (pc := 0) C dX0_pushPlace_0 rfl 0 rfl ?_
  refine gxs_pl (pc := 1) (v := σ.pl) C rfl dX0_pushPlace_1 ?_
  refine v_istore_n (pc := 4) C dX0_pushPlace_4 rfl (by decide) (lv' := [(2, .int (nI σ.pl)), (0, .ref (ad 0)), (1, .int (nI ls))]) rfl ?_
  refine v_aload_n (pc := 5) C dX0_pushPlace_5 rfl 1 rfl ?_
  refine v_dup (pc := 6) C dX0_pushPlace_6 rfl ?_
  refine gxs_pl (pc := 7) (v := σ.pl) C rfl dX0_pushPlace_7 ?_
  refine v_iconst (pc := 10) C dX0_pushPlace_10 ci_1 ?_
  refine v_iaddN (pc := 11) C dX0_pushPlace_11 ?_
  refine pxs_pl (pc := 12) (v := σ.pl + 1) C dX0_pushPlace_12 ?_
  refine v_aload_n (pc := 15) C dX0_pushPlace_15 rfl 1 rfl ?_
  refine gxs_fol (pc := 16) C dX0_pushPlace_16 ?_
  refine v_iload_n (pc := 19) C dX0_pushPlace_19 rfl 0 rfl ?_
  refine v_lconst (pc := 20) C dX0_pushPlace_20 cl_0 ?_
  refine sxs_fol (pc := 21) (j := σ.pl) (x := 0) C (by omega) dX0_pushPlace_21 ?_
  refine v_iconst (pc := 22) C dX0_pushPlace_22 ci_0 ?_
  refine v_istore_n (pc := 23) C dX0_pushPlace_23 rfl (by decide) (lv' := [(3, .int (nI 0)), (2, .int (nI σ.pl)), (0, .ref (ad 0)), (1, .int (nI ls))]) rfl ?_
  exact L 0 (Nat.zero_le _)
end XT
end
section
set_option maxRecDepth 100000
section XT
abbrev x_join (σ : XS) (x y : Nat) : XS := xs_em (xs_la (xs_fi (xs_fol (xs_stk σ y) (ldF σ.fol (σ.la x) (σ.fi y) σ.pl)) (vp_updL σ.fi x (if σ.em x = true then σ.fi x ||| σ.fi y else σ.fi x))) (vp_updL σ.la x (if σ.em y = true then σ.la x ||| σ.la y else σ.la y))) (upB σ.em x (σ.em x && σ.em y))
set_option maxHeartbeats 4000000 in
theorem met_x_joinTwo {l : Launch} {D : va_G} {ad : Nat → Nat} {ci cj cz : ClassId} (σ : XS) (x : Nat) (hx : σ.stk = x + 2) (hs : σ.stk ≤ 40) (hp : σ.pl ≤ 40) : vMv l D (vTy ci cj cz) yX0_joinTwo cX0_joinTwo 3 1 [.ref (ad 0)] (xW ad ci cj cz σ) ad 15 (fun u => u = x_join σ x (x + 1)) (xW ad ci cj cz) := by
  refine vMv_of (by decide) (Nat.le_of_ble_eq_true rfl) xW_at ?_
  intro X C E
  have C : vC X cX0_joinTwo RX0 3 (vTy ci cj cz) (vRm 1) ad 15 := C
  refine v_lv (lv' := [(0, .ref (ad 0))]) rfl ?_
  refine v_aload_n (pc := 0) C dX0_joinTwo_0 rfl 0 rfl ?_
  refine v_dup (pc := 1) C dX0_joinTwo_1 rfl ?_
  refine gxs_stk (pc := 2) (v := σ.stk) C rfl dX0_joinTwo_2 ?_
  refine v_iconst (pc := 5) C dX0_joinTwo_5 ci_1 ?_
  refine v_isubE (v := nI (x + 1)) (pc := 6) C dX0_joinTwo_6 (show nI σ.stk - nI 1 = nI (x + 1) by rw [hx]; exact pk_sub (by omega)) ?_
  refine pxs_stk (pc := 7) (v := x + 1) C dX0_joinTwo_7 ?_
  refine v_aload_n (pc := 10) C dX0_joinTwo_10 rfl 0 rfl ?_
  refine gxs_stk (pc := 11) (v := x + 1) C rfl dX0_joinTwo_11 ?_
  refine v_iconst (pc := 14) C dX0_joinTwo_14 ci_1 ?_
  refine v_isubE (v := nI x) (pc := 15) C dX0_joinTwo_15 (pk_sub (by omega)) ?_
  refine v_istore_n (pc := 16) C dX0_joinTwo_16 rfl (by decide) (lv' := [(1, .int (nI x)), (0, .ref (ad 0))]) rfl ?_
  refine v_aload_n (pc := 17) C dX0_joinTwo_17 rfl 1 rfl ?_
  refine gxs_stk (pc := 18) (v := x + 1) C rfl dX0_joinTwo_18 ?_
  refine v_istore_n (pc := 21) C dX0_joinTwo_21 rfl (by decide) (lv' := [(2, .int (nI (x + 1))), (1, .int (nI x)), (0, .ref (ad 0))]) rfl ?_
  refine v_aload_n (pc := 22) C dX0_joinTwo_22 rfl 2 rfl ?_
  refine v_aload_n (pc := 23) C dX0_joinTwo_23 rfl 2 rfl ?_
  refine gxs_la (pc := 24) C dX0_joinTwo_24 ?_
  refine v_iload_n (pc := 27) C dX0_joinTwo_27 rfl 1 rfl ?_
  refine lxs_la (pc := 28) (j := x) (v := σ.la x) C rfl (by omega) dX0_joinTwo_28 ?_
  refine v_aload_n (pc := 29) C dX0_joinTwo_29 rfl 2 rfl ?_
  refine gxs_fi (pc := 30) C dX0_joinTwo_30 ?_
  refine v_iload_n (pc := 33) C dX0_joinTwo_33 rfl 0 rfl ?_
  refine lxs_fi (pc := 34) (j := x + 1) (v := σ.fi (x + 1)) C rfl (by omega) dX0_joinTwo_34 ?_
  refine v_callv (pc := 35) C [.long (σ.la x), .long (σ.fi (x + 1))] 2 (met_x_lead (xs_stk σ (x + 1)) (σ.la x) (σ.fi (x + 1)) hp) (lw_V q120 q122 qs4 q23 q123) (by decide +kernel) (by decide) (ci := 0) (q0 := 0) rfl rfl rfl rfl (Nat.le_of_ble_eq_true rfl) dX0_joinTwo_35 (fun u hu => ?_)
  subst hu
  refine v_aload_n (pc := 38) C dX0_joinTwo_38 rfl 2 rfl ?_
  refine gxs_fi (pc := 39) C dX0_joinTwo_39 ?_
  refine v_iload_n (pc := 42) C dX0_joinTwo_42 rfl 1 rfl ?_
  refine v_aload_n (pc := 43) C dX0_joinTwo_43 rfl 2 rfl ?_
  refine gxs_em (pc := 44) C dX0_joinTwo_44 ?_
  refine v_iload_n (pc := 47) C dX0_joinTwo_47 rfl 1 rfl ?_
  refine lxs_em (pc := 48) (j := x) (v := σ.em x) C rfl (by omega) dX0_joinTwo_48 ?_
  have J74 : vV X (xW ad ci cj cz (xs_fol (xs_stk σ (x + 1)) (ldF σ.fol (σ.la x) (σ.fi (x + 1)) σ.pl))) 74 [(2, .int (nI (x + 1))), (1, .int (nI x)), (0, .ref (ad 0))] [.long (if σ.em x = true then σ.fi x ||| σ.fi (x + 1) else σ.fi x), .int (nI x), .ref (ad 3)] := by
    refine sxs_fi (pc := 74) (j := x) (x := if σ.em x = true then σ.fi x ||| σ.fi (x + 1) else σ.fi x) C (by omega) dX0_joinTwo_74 ?_
    refine v_aload_n (pc := 75) C dX0_joinTwo_75 rfl 2 rfl ?_
    refine gxs_la (pc := 76) C dX0_joinTwo_76 ?_
    refine v_iload_n (pc := 79) C dX0_joinTwo_79 rfl 1 rfl ?_
    refine v_aload_n (pc := 80) C dX0_joinTwo_80 rfl 2 rfl ?_
    refine gxs_em (pc := 81) C dX0_joinTwo_81 ?_
    refine v_iload_n (pc := 84) C dX0_joinTwo_84 rfl 0 rfl ?_
    refine lxs_em (pc := 85) (j := x + 1) (v := σ.em (x + 1)) C rfl (by omega) dX0_joinTwo_85 ?_
    have J111 : vV X (xW ad ci cj cz (xs_fi (xs_fol (xs_stk σ (x + 1)) (ldF σ.fol (σ.la x) (σ.fi (x + 1)) σ.pl)) (vp_updL σ.fi x (if σ.em x = true then σ.fi x ||| σ.fi (x + 1) else σ.fi x)))) 111 [(2, .int (nI (x + 1))), (1, .int (nI x)), (0, .ref (ad 0))] [.long (if σ.em (x + 1) = true then σ.la x ||| σ.la (x + 1) else σ.la (x + 1)), .int (nI x), .ref (ad 4)] := by
      refine sxs_la (pc := 111) (j := x) (x := if σ.em (x + 1) = true then σ.la x ||| σ.la (x + 1) else σ.la (x + 1)) C (by omega) dX0_joinTwo_111 ?_
      refine v_aload_n (pc := 112) C dX0_joinTwo_112 rfl 2 rfl ?_
      refine gxs_em (pc := 113) C dX0_joinTwo_113 ?_
      refine v_iload_n (pc := 116) C dX0_joinTwo_116 rfl 1 rfl ?_
      refine v_aload_n (pc := 117) C dX0_joinTwo_117 rfl 2 rfl ?_
      refine gxs_em (pc := 118) C dX0_joinTwo_118 ?_
      refine v_iload_n (pc := 121) C dX0_joinTwo_121 rfl 1 rfl ?_
      refine lxs_em (pc := 122) (j := x) (v := σ.em x) C rfl (by omega) dX0_joinTwo_122 ?_
      have J140 : vV X (xW ad ci cj cz (xs_la (xs_fi (xs_fol (xs_stk σ (x + 1)) (ldF σ.fol (σ.la x) (σ.fi (x + 1)) σ.pl)) (vp_updL σ.fi x (if σ.em x = true then σ.fi x ||| σ.fi (x + 1) else σ.fi x))) (vp_updL σ.la x (if σ.em (x + 1) = true then σ.la x ||| σ.la (x + 1) else σ.la (x + 1))))) 140 [(2, .int (nI (x + 1))), (1, .int (nI x)), (0, .ref (ad 0))] [.int (bI (σ.em x && σ.em (x + 1))), .int (nI x), .ref (ad 5)] := by
        refine sxs_em (pc := 140) (j := x) (x := (σ.em x && σ.em (x + 1))) C (by omega) dX0_joinTwo_140 ?_
        exact v_vret (pc := 141) C E (x_join σ x (x + 1)) rfl rfl dX0_joinTwo_141
      refine v_if_eqB (pc := 123) (tgt := 139) C dX0_joinTwo_123 (by decide) (fun h123 => ?_) (fun h123 => ?_)
      · skip
        refine v_iconst (pc := 139) C dX0_joinTwo_139 cz_0 ?_
        exact v_st (congrArg (fun z9 => Value.int (bI z9) :: [.int (nI x), .ref (ad 5)]) (show false = (σ.em x && σ.em (x + 1)) from (by rw [h123]; rfl))) J140
      · skip
        refine v_aload_n (pc := 126) C dX0_joinTwo_126 rfl 2 rfl ?_
        refine gxs_em (pc := 127) C dX0_joinTwo_127 ?_
        refine v_iload_n (pc := 130) C dX0_joinTwo_130 rfl 0 rfl ?_
        refine lxs_em (pc := 131) (j := x + 1) (v := σ.em (x + 1)) C rfl (by omega) dX0_joinTwo_131 ?_
        refine v_if_eqB (pc := 132) (tgt := 139) C dX0_joinTwo_132 (by decide) (fun h132 => ?_) (fun h132 => ?_)
        · skip
          refine v_iconst (pc := 139) C dX0_joinTwo_139 cz_0 ?_
          exact v_st (congrArg (fun z9 => Value.int (bI z9) :: [.int (nI x), .ref (ad 5)]) (show false = (σ.em x && σ.em (x + 1)) from (by rw [h132, Bool.and_false]))) J140
        · skip
          refine v_iconst (pc := 135) C dX0_joinTwo_135 cz_1 ?_
          refine v_goto (tgt := 140) (pc := 136) C dX0_joinTwo_136 (by decide) ?_
          exact v_st (congrArg (fun z9 => Value.int (bI z9) :: [.int (nI x), .ref (ad 5)]) (show true = (σ.em x && σ.em (x + 1)) from (by rw [h123, h132]; rfl))) J140
    refine v_if_eqB (pc := 86) (tgt := 105) C dX0_joinTwo_86 (by decide) (fun h86 => ?_) (fun h86 => ?_)
    · skip
      refine v_aload_n (pc := 105) C dX0_joinTwo_105 rfl 2 rfl ?_
      refine gxs_la (pc := 106) C dX0_joinTwo_106 ?_
      refine v_iload_n (pc := 109) C dX0_joinTwo_109 rfl 0 rfl ?_
      refine lxs_la (pc := 110) (j := x + 1) (v := σ.la (x + 1)) C rfl (by omega) dX0_joinTwo_110 ?_
      exact v_st (congrArg (fun z9 => Value.long z9 :: [.int (nI x), .ref (ad 4)]) (show σ.la (x + 1) = (if σ.em (x + 1) = true then σ.la x ||| σ.la (x + 1) else σ.la (x + 1)) from (if_neg (by rw [h86]; decide)).symm)) J111
    · skip
      refine v_aload_n (pc := 89) C dX0_joinTwo_89 rfl 2 rfl ?_
      refine gxs_la (pc := 90) C dX0_joinTwo_90 ?_
      refine v_iload_n (pc := 93) C dX0_joinTwo_93 rfl 1 rfl ?_
      refine lxs_la (pc := 94) (j := x) (v := σ.la x) C rfl (by omega) dX0_joinTwo_94 ?_
      refine v_aload_n (pc := 95) C dX0_joinTwo_95 rfl 2 rfl ?_
      refine gxs_la (pc := 96) C dX0_joinTwo_96 ?_
      refine v_iload_n (pc := 99) C dX0_joinTwo_99 rfl 0 rfl ?_
      refine lxs_la (pc := 100) (j := x + 1) (v := σ.la (x + 1)) C rfl (by omega) dX0_joinTwo_100 ?_
      refine v_lor (pc := 101) C dX0_joinTwo_101 ?_
      refine v_goto (tgt := 111) (pc := 102) C dX0_joinTwo_102 (by decide) ?_
      exact v_st (congrArg (fun z9 => Value.long z9 :: [.int (nI x), .ref (ad 4)]) (show (σ.la x) ||| (σ.la (x + 1)) = (if σ.em (x + 1) = true then σ.la x ||| σ.la (x + 1) else σ.la (x + 1)) from (if_pos h86).symm)) J111
  refine v_if_eqB (pc := 49) (tgt := 68) C dX0_joinTwo_49 (by decide) (fun h49 => ?_) (fun h49 => ?_)
  · skip
    refine v_aload_n (pc := 68) C dX0_joinTwo_68 rfl 2 rfl ?_
    refine gxs_fi (pc := 69) C dX0_joinTwo_69 ?_
    refine v_iload_n (pc := 72) C dX0_joinTwo_72 rfl 1 rfl ?_
    refine lxs_fi (pc := 73) (j := x) (v := σ.fi x) C rfl (by omega) dX0_joinTwo_73 ?_
    exact v_st (congrArg (fun z9 => Value.long z9 :: [.int (nI x), .ref (ad 3)]) (show σ.fi x = (if σ.em x = true then σ.fi x ||| σ.fi (x + 1) else σ.fi x) from (if_neg (by rw [h49]; decide)).symm)) J74
  · skip
    refine v_aload_n (pc := 52) C dX0_joinTwo_52 rfl 2 rfl ?_
    refine gxs_fi (pc := 53) C dX0_joinTwo_53 ?_
    refine v_iload_n (pc := 56) C dX0_joinTwo_56 rfl 1 rfl ?_
    refine lxs_fi (pc := 57) (j := x) (v := σ.fi x) C rfl (by omega) dX0_joinTwo_57 ?_
    refine v_aload_n (pc := 58) C dX0_joinTwo_58 rfl 2 rfl ?_
    refine gxs_fi (pc := 59) C dX0_joinTwo_59 ?_
    refine v_iload_n (pc := 62) C dX0_joinTwo_62 rfl 0 rfl ?_
    refine lxs_fi (pc := 63) (j := x + 1) (v := σ.fi (x + 1)) C rfl (by omega) dX0_joinTwo_63 ?_
    refine v_lor (pc := 64) C dX0_joinTwo_64 ?_
    refine v_goto (tgt := 74) (pc := 65) C dX0_joinTwo_65 (by decide) ?_
    exact v_st (congrArg (fun z9 => Value.long z9 :: [.int (nI x), .ref (ad 3)]) (show (σ.fi x) ||| (σ.fi (x + 1)) = (if σ.em x = true then σ.fi x ||| σ.fi (x + 1) else σ.fi x) from (if_pos h49).symm)) J74
end XT
end
section
set_option maxRecDepth 100000
section XT
abbrev x_rule (σ : XS) (x : Nat) : XS := x_empty (xs_rul (xs_re (xs_rl (xs_rf (xs_stk σ x) (vp_updL σ.rf σ.rul (σ.fi x))) (vp_updL σ.rl σ.rul (σ.la x))) (upB σ.re σ.rul (σ.em x))) (σ.rul + 1))
set_option maxHeartbeats 4000000 in
theorem met_x_makeRule {l : Launch} {D : va_G} {ad : Nat → Nat} {ci cj cz : ClassId} (σ : XS) (x : Nat) (hx : σ.stk = x + 1) (hs : σ.stk ≤ 40) (hr : σ.rul < 5) : vMv l D (vTy ci cj cz) yX0_makeRule cX0_makeRule 1 1 [.ref (ad 0)] (xW ad ci cj cz σ) ad 15 (fun u => u = x_rule σ x) (xW ad ci cj cz) := by
  refine vMv_of (by decide) (Nat.le_of_ble_eq_true rfl) xW_at ?_
  intro X C E
  have C : vC X cX0_makeRule RX0 1 (vTy ci cj cz) (vRm 1) ad 15 := C
  refine v_lv (lv' := [(0, .ref (ad 0))]) rfl ?_
  refine v_aload_n (pc := 0) C dX0_makeRule_0 rfl 0 rfl ?_
  refine v_dup (pc := 1) C dX0_makeRule_1 rfl ?_
  refine gxs_stk (pc := 2) (v := σ.stk) C rfl dX0_makeRule_2 ?_
  refine v_iconst (pc := 5) C dX0_makeRule_5 ci_1 ?_
  refine v_isubE (v := nI x) (pc := 6) C dX0_makeRule_6 (show nI σ.stk - nI 1 = nI x by rw [hx]; exact pk_sub (by omega)) ?_
  refine pxs_stk (pc := 7) (v := x) C dX0_makeRule_7 ?_
  refine v_aload_n (pc := 10) C dX0_makeRule_10 rfl 0 rfl ?_
  refine gxs_rf (pc := 11) C dX0_makeRule_11 ?_
  refine v_aload_n (pc := 14) C dX0_makeRule_14 rfl 0 rfl ?_
  refine gxs_rul (pc := 15) (v := σ.rul) C rfl dX0_makeRule_15 ?_
  refine v_aload_n (pc := 18) C dX0_makeRule_18 rfl 0 rfl ?_
  refine gxs_fi (pc := 19) C dX0_makeRule_19 ?_
  refine v_aload_n (pc := 22) C dX0_makeRule_22 rfl 0 rfl ?_
  refine gxs_stk (pc := 23) (v := x) C rfl dX0_makeRule_23 ?_
  refine lxs_fi (pc := 26) (j := x) (v := σ.fi x) C rfl (by omega) dX0_makeRule_26 ?_
  refine sxs_rf (pc := 27) (j := σ.rul) (x := σ.fi x) C (by omega) dX0_makeRule_27 ?_
  refine v_aload_n (pc := 28) C dX0_makeRule_28 rfl 0 rfl ?_
  refine gxs_rl (pc := 29) C dX0_makeRule_29 ?_
  refine v_aload_n (pc := 32) C dX0_makeRule_32 rfl 0 rfl ?_
  refine gxs_rul (pc := 33) (v := σ.rul) C rfl dX0_makeRule_33 ?_
  refine v_aload_n (pc := 36) C dX0_makeRule_36 rfl 0 rfl ?_
  refine gxs_la (pc := 37) C dX0_makeRule_37 ?_
  refine v_aload_n (pc := 40) C dX0_makeRule_40 rfl 0 rfl ?_
  refine gxs_stk (pc := 41) (v := x) C rfl dX0_makeRule_41 ?_
  refine lxs_la (pc := 44) (j := x) (v := σ.la x) C rfl (by omega) dX0_makeRule_44 ?_
  refine sxs_rl (pc := 45) (j := σ.rul) (x := σ.la x) C (by omega) dX0_makeRule_45 ?_
  refine v_aload_n (pc := 46) C dX0_makeRule_46 rfl 0 rfl ?_
  refine gxs_re (pc := 47) C dX0_makeRule_47 ?_
  refine v_aload_n (pc := 50) C dX0_makeRule_50 rfl 0 rfl ?_
  refine gxs_rul (pc := 51) (v := σ.rul) C rfl dX0_makeRule_51 ?_
  refine v_aload_n (pc := 54) C dX0_makeRule_54 rfl 0 rfl ?_
  refine gxs_em (pc := 55) C dX0_makeRule_55 ?_
  refine v_aload_n (pc := 58) C dX0_makeRule_58 rfl 0 rfl ?_
  refine gxs_stk (pc := 59) (v := x) C rfl dX0_makeRule_59 ?_
  refine lxs_em (pc := 62) (j := x) (v := σ.em x) C rfl (by omega) dX0_makeRule_62 ?_
  refine sxs_re (pc := 63) (j := σ.rul) (x := σ.em x) C (by omega) dX0_makeRule_63 ?_
  refine v_aload_n (pc := 64) C dX0_makeRule_64 rfl 0 rfl ?_
  refine v_dup (pc := 65) C dX0_makeRule_65 rfl ?_
  refine gxs_rul (pc := 66) (v := σ.rul) C rfl dX0_makeRule_66 ?_
  refine v_iconst (pc := 69) C dX0_makeRule_69 ci_1 ?_
  refine v_iaddN (pc := 70) C dX0_makeRule_70 ?_
  refine pxs_rul (pc := 71) (v := σ.rul + 1) C dX0_makeRule_71 ?_
  refine v_aload_n (pc := 74) C dX0_makeRule_74 rfl 0 rfl ?_
  refine v_callv (pc := 75) C [] 0 (met_x_emptyTable (xs_rul (xs_re (xs_rl (xs_rf (xs_stk σ x) (vp_updL σ.rf σ.rul (σ.fi x))) (vp_updL σ.rl σ.rul (σ.la x))) (upB σ.re σ.rul (σ.em x))) (σ.rul + 1)) hr) (lw_V q33 q35 qs0 q23 q36) (by decide +kernel) (by decide) (ci := 0) (q0 := 0) rfl rfl rfl rfl (Nat.le_of_ble_eq_true rfl) dX0_makeRule_75 (fun u hu => ?_)
  subst hu
  exact v_vret (pc := 78) C E (x_rule σ x) rfl rfl dX0_makeRule_78
end XT
end
section
set_option maxRecDepth 100000
section XT
abbrev x_clear (σ : XS) : XS := x_empty (xs_lp (xs_rul (xs_stk (xs_pl (xs_tok σ 0) 0) 0) 0) (fiL σ.lp 0 4))
set_option maxHeartbeats 4000000 in
theorem met_x_clear {l : Launch} {D : va_G} {ad : Nat → Nat} {ci cj cz : ClassId} (σ : XS)  : vMv l D (vTy ci cj cz) yX0_clear cX0_clear 2 1 [.ref (ad 0)] (xW ad ci cj cz σ) ad 15 (fun u => u = x_clear σ) (xW ad ci cj cz) := by
  refine vMv_of (by decide) (Nat.le_of_ble_eq_true rfl) xW_at ?_
  intro X C E
  have C : vC X cX0_clear RX0 2 (vTy ci cj cz) (vRm 1) ad 15 := C
  refine v_lv (lv' := [(0, .ref (ad 0))]) rfl ?_
  have L : ∀ i, i ≤ 4 → vV X (xW ad ci cj cz (xs_lp (xs_rul (xs_stk (xs_pl (xs_tok σ 0) 0) 0) 0) (fiL σ.lp 0 i))) 22 [(1, .int (nI i)), (0, .ref (ad 0))] [] := by
    refine lp_up (fun i hi ih => ?_)
    refine v_iload_n (pc := 22) C dX0_clear_22 rfl 0 rfl ?_
    refine v_iconst (pc := 23) C dX0_clear_23 ci_4 ?_
    refine v_icmp_geN (pc := 24) (tgt := 40) C dX0_clear_24 (by decide) (by omega) (by omega) (fun h24 => ?_) (fun h24 => ?_)
    · skip
      have e4 : i = 4 := by omega
      subst e4
      refine v_aload_n (pc := 40) C dX0_clear_40 rfl 1 rfl ?_
      refine v_callv (pc := 41) C [] 0 (met_x_emptyTable (xs_lp (xs_rul (xs_stk (xs_pl (xs_tok σ 0) 0) 0) 0) (fiL σ.lp 0 4)) (Nat.zero_le _)) (lw_V q33 q35 qs0 q23 q36) (by decide +kernel) (by decide) (ci := 0) (q0 := 0) rfl rfl rfl rfl (Nat.le_of_ble_eq_true rfl) dX0_clear_41 (fun u hu => ?_)
      subst hu
      exact v_vret (pc := 44) C E (x_clear σ) rfl rfl dX0_clear_44
    · skip
      refine v_aload_n (pc := 27) C dX0_clear_27 rfl 1 rfl ?_
      refine gxs_lp (pc := 28) C dX0_clear_28 ?_
      refine v_iload_n (pc := 31) C dX0_clear_31 rfl 0 rfl ?_
      refine v_lconst (pc := 32) C dX0_clear_32 cl_0 ?_
      refine sxs_lp (pc := 33) (j := i) (x := 0) C (by omega) dX0_clear_33 ?_
      refine v_iinc (pc := 34) C dX0_clear_34 0 rfl (v_inc i) (by decide) (lv' := [(1, .int (nI (i + 1))), (0, .ref (ad 0))]) rfl ?_
      refine v_goto (tgt := 22) (pc := 37) C dX0_clear_37 (by decide) ?_
      exact ih h24
  refine v_aload_n (pc := 0) C dX0_clear_0 rfl 0 rfl ?_
  refine v_iconst (pc := 1) C dX0_clear_1 ci_0 ?_
  refine pxs_tok (pc := 2) (v := 0) C dX0_clear_2 ?_
  refine v_aload_n (pc := 5) C dX0_clear_5 rfl 0 rfl ?_
  refine v_iconst (pc := 6) C dX0_clear_6 ci_0 ?_
  refine pxs_pl (pc := 7) (v := 0) C dX0_clear_7 ?_
  refine v_aload_n (pc := 10) C dX0_clear_10 rfl 0 rfl ?_
  refine v_iconst (pc := 11) C dX0_clear_11 ci_0 ?_
  refine pxs_stk (pc := 12) (v := 0) C dX0_clear_12 ?_
  refine v_aload_n (pc := 15) C dX0_clear_15 rfl 0 rfl ?_
  refine v_iconst (pc := 16) C dX0_clear_16 ci_0 ?_
  refine pxs_rul (pc := 17) (v := 0) C dX0_clear_17 ?_
  refine v_iconst (pc := 20) C dX0_clear_20 ci_0 ?_
  refine v_istore_n (pc := 21) C dX0_clear_21 rfl (by decide) (lv' := [(1, .int (nI 0)), (0, .ref (ad 0))]) rfl ?_
  exact L 0 (Nat.zero_le _)
end XT
end
section
set_option maxRecDepth 100000
section XK
/-- how many expressions a token takes -/
def takesN (k : Nat) : Nat := if k < 3 then 0 else if k < 5 then 2 else 1
/-- the token is taken -/
def tkOk (stk tok rul : Nat) (c : Int32) : Prop := ∃ k, k ≤ 7 ∧ c = nI k ∧ takesN k ≤ stk ∧ tok < 40 ∧ (k = 7 → rul < 5)
theorem tk_cases (c : Int32) : (c < 0 ∨ nI 7 < c) ∨ ∃ k, k ≤ 7 ∧ c = nI k := by
  by_cases h : c < 0
  · exact Or.inl (Or.inl h)
  · by_cases h2 : nI 7 < c
    · exact Or.inl (Or.inr h2)
    · exact Or.inr (nI_of2 (M := nI 7) (by decide) h (by
        rw [Int32.le_iff_toInt_le]; rw [Int32.lt_iff_toInt_lt] at h2; omega))
theorem tk_bad {stk tok rul : Nat} {c : Int32} (h : c < 0 ∨ nI 7 < c) : ¬ tkOk stk tok rul c := by
  rintro ⟨k, hk, rfl, -⟩
  rcases h with h | h
  · exact nI_pos (by omega) h
  · exact absurd ((nI_ltI (by decide) (by omega)).mp h) (by omega)
theorem tk_inj {k j : Nat} (hk : k ≤ 7) (hj : j ≤ 7) (h : nI k = nI j) : k = j := (nI_eq (by omega) (by omega)).mp h
theorem sh1 : ∀ n, n < 4 → nI 1 <<< (nI n &&& 31) = nI (2 ^ n) := by decide +kernel
theorem p16 : ∀ n, n < 4 → 2 ^ n < 16 := by decide
abbrev x_or (σ : XS) (x : Nat) : XS := xs_em (xs_la (xs_fi (xs_stk σ (x + 1)) (vp_updL σ.fi x (σ.fi x ||| σ.fi (x + 1)))) (vp_updL σ.la x (σ.la x ||| σ.la (x + 1)))) (upB σ.em x (σ.em x || σ.em (x + 1)))
abbrev x_star (σ : XS) (x : Nat) (b : Bool) : XS := xs_em (xs_fol σ (ldF σ.fol (σ.la x) (σ.fi x) σ.pl)) (upB σ.em x (σ.em x || b))
/-- what the token k does -/
def tkR (σ : XS) (k a : Nat) (u : XS) : Prop :=
  (k = 0 ∧ u = x_pushPlace (xs_tok σ (σ.tok + 1)) (2 ^ a)) ∨ (k = 1 ∧ u = x_pushPlace (xs_tok σ (σ.tok + 1)) 15) ∨ (k = 2 ∧ u = x_push (xs_tok σ (σ.tok + 1)) 0 0 true) ∨
  (k = 3 ∧ ∃ x, σ.stk = x + 2 ∧ u = x_join (xs_tok σ (σ.tok + 1)) x (x + 1)) ∨ (k = 4 ∧ ∃ x, σ.stk = x + 2 ∧ u = x_or (xs_tok σ (σ.tok + 1)) x) ∨
  (k = 7 ∧ ∃ x, σ.stk = x + 1 ∧ u = x_rule (xs_tok σ (σ.tok + 1)) x) ∨ ((k = 5 ∨ k = 6) ∧ ∃ x, σ.stk = x + 1 ∧ u = x_star (xs_tok σ (σ.tok + 1)) x (k == 5))
set_option maxHeartbeats 4000000 in
theorem met_x_token {l : Launch} {D : va_G} {ad : Nat → Nat} {ci cj cz : ClassId} (σ : XS) (c a : Int32) (hs : σ.stk ≤ σ.tok) (hp : σ.pl ≤ σ.tok) (ht : σ.tok ≤ 40) (hr : σ.rul ≤ 5) : vMi l D (vTy ci cj cz) yX0_token cX0_token 5 (some .int) 2 [.ref (ad 0), .int c, .int a] (xW ad ci cj cz σ) ad 15 (fun r u => (¬ tkOk σ.stk σ.tok σ.rul c ∧ r = -1 ∧ u = σ) ∨ (tkOk σ.stk σ.tok σ.rul c ∧ ∃ k, k ≤ 7 ∧ c = nI k ∧ r = nI u.stk ∧ tkR σ k (a3 a) u)) (xW ad ci cj cz) := by
  refine vMi_of (by decide) (Nat.le_of_ble_eq_true rfl) xW_at ?_
  intro X C E
  have C : vC X cX0_token RX0 5 (vTy ci cj cz) (vRm 2) ad 15 := C
  refine v_lv (lv' := [(0, .ref (ad 0)), (1, .int c), (2, .int a)]) rfl ?_
  rcases tk_cases c with hbad | ⟨k, hk, rfl⟩
  · have J20 : ∀ t : Nat, vV X (xW ad ci cj cz σ) 20 [(3, .int (nI t)), (0, .ref (ad 0)), (1, .int c), (2, .int a)] [] := by
      intro t
      refine v_iload_n (pc := 20) C dX0_token_20 rfl 2 rfl ?_
      refine v_if_lt (pc := 21) (tgt := 61) C dX0_token_21 (by decide) (fun h21 => ?_) (fun h21 => ?_)
      · skip
        refine v_iconst (pc := 61) C dX0_token_61 ci_m1 ?_
        exact v_iret (pc := 62) C E σ rfl (Or.inl ⟨tk_bad hbad, rfl, rfl⟩) dX0_token_62
      · skip
        refine v_iload_n (pc := 24) C dX0_token_24 rfl 2 rfl ?_
        refine v_bipush (pc := 25) C dX0_token_25 cb_7 ?_
        refine v_icmp_gt (pc := 27) (tgt := 61) C dX0_token_27 (by decide) (fun h27 => ?_) (fun h27 => ?_)
        · skip
          refine v_iconst (pc := 61) C dX0_token_61 ci_m1 ?_
          exact v_iret (pc := 62) C E σ rfl (Or.inl ⟨tk_bad hbad, rfl, rfl⟩) dX0_token_62
        · skip
          exact absurd hbad (fun q => q.elim h21 h27)
    refine v_iload_n (pc := 0) C dX0_token_0 rfl 1 rfl ?_
    refine v_iconst (pc := 1) C dX0_token_1 ci_3 ?_
    refine v_icmp_ge (pc := 2) (tgt := 9) C dX0_token_2 (by decide) (fun h2 => ?_) (fun h2 => ?_)
    · skip
      refine v_iload_n (pc := 9) C dX0_token_9 rfl 1 rfl ?_
      refine v_iconst (pc := 10) C dX0_token_10 ci_5 ?_
      refine v_icmp_ge (pc := 11) (tgt := 18) C dX0_token_11 (by decide) (fun h11 => ?_) (fun h11 => ?_)
      · skip
        refine v_iconst (pc := 18) C dX0_token_18 ci_1 ?_
        refine v_istore_n (pc := 19) C dX0_token_19 rfl (by decide) (lv' := [(3, .int (nI 1)), (0, .ref (ad 0)), (1, .int c), (2, .int a)]) rfl ?_
        exact J20 _
      · skip
        refine v_iconst (pc := 14) C dX0_token_14 ci_2 ?_
        refine v_goto (tgt := 19) (pc := 15) C dX0_token_15 (by decide) ?_
        refine v_istore_n (pc := 19) C dX0_token_19 rfl (by decide) (lv' := [(3, .int (nI 2)), (0, .ref (ad 0)), (1, .int c), (2, .int a)]) rfl ?_
        exact J20 _
    · skip
      refine v_iconst (pc := 5) C dX0_token_5 ci_0 ?_
      refine v_goto (tgt := 19) (pc := 6) C dX0_token_6 (by decide) ?_
      refine v_istore_n (pc := 19) C dX0_token_19 rfl (by decide) (lv' := [(3, .int (nI 0)), (0, .ref (ad 0)), (1, .int c), (2, .int a)]) rfl ?_
      exact J20 _
  · have J63 : takesN k ≤ σ.stk → σ.tok < 40 → (k = 7 → σ.rul < 5) → vV X (xW ad ci cj cz σ) 63 [(3, .int (nI (takesN k))), (0, .ref (ad 0)), (1, .int (nI k)), (2, .int a)] [] := by
      intro ht1 ht2 ht3
      have hok : tkOk σ.stk σ.tok σ.rul (nI k) := ⟨k, hk, rfl, ht1, ht2, ht3⟩
      refine v_aload_n (pc := 63) C dX0_token_63 rfl 1 rfl ?_
      refine v_dup (pc := 64) C dX0_token_64 rfl ?_
      refine gxs_tok (pc := 65) (v := σ.tok) C rfl dX0_token_65 ?_
      refine v_iconst (pc := 68) C dX0_token_68 ci_1 ?_
      refine v_iaddN (pc := 69) C dX0_token_69 ?_
      refine pxs_tok (pc := 70) (v := σ.tok + 1) C dX0_token_70 ?_
      refine v_iload_n (pc := 73) C dX0_token_73 rfl 2 rfl ?_
      refine v_if_neN (pc := 74) (tgt := 89) C dX0_token_74 (by decide) (by omega) (fun h74 => ?_) (fun h74 => ?_)
      · skip
        refine v_iload_n (pc := 89) C dX0_token_89 rfl 2 rfl ?_
        refine v_iconst (pc := 90) C dX0_token_90 ci_1 ?_
        refine v_icmp_neN (pc := 91) (tgt := 103) C dX0_token_91 (by decide) (by omega) (by omega) (fun h91 => ?_) (fun h91 => ?_)
        · skip
          refine v_iload_n (pc := 103) C dX0_token_103 rfl 2 rfl ?_
          refine v_iconst (pc := 104) C dX0_token_104 ci_2 ?_
          refine v_icmp_neN (pc := 105) (tgt := 118) C dX0_token_105 (by decide) (by omega) (by omega) (fun h105 => ?_) (fun h105 => ?_)
          · skip
            refine v_iload_n (pc := 118) C dX0_token_118 rfl 2 rfl ?_
            refine v_iconst (pc := 119) C dX0_token_119 ci_3 ?_
            refine v_icmp_neN (pc := 120) (tgt := 130) C dX0_token_120 (by decide) (by omega) (by omega) (fun h120 => ?_) (fun h120 => ?_)
            · skip
              refine v_iload_n (pc := 130) C dX0_token_130 rfl 2 rfl ?_
              refine v_iconst (pc := 131) C dX0_token_131 ci_4 ?_
              refine v_icmp_neN (pc := 132) (tgt := 228) C dX0_token_132 (by decide) (by omega) (by omega) (fun h132 => ?_) (fun h132 => ?_)
              · skip
                refine v_iload_n (pc := 228) C dX0_token_228 rfl 2 rfl ?_
                refine v_bipush (pc := 229) C dX0_token_229 cb_7 ?_
                refine v_icmp_neN (pc := 231) (tgt := 241) C dX0_token_231 (by decide) (by omega) (by omega) (fun h231 => ?_) (fun h231 => ?_)
                · skip
                  have hk56 : k = 5 ∨ k = 6 := by omega
                  have htk : takesN k = 1 := by rcases hk56 with rfl | rfl <;> rfl
                  rw [htk] at ht1
                  obtain ⟨x, hx⟩ : ∃ x, σ.stk = x + 1 := ⟨σ.stk - 1, by omega⟩
                  refine v_aload_n (pc := 241) C dX0_token_241 rfl 1 rfl ?_
                  refine gxs_stk (pc := 242) (v := σ.stk) C rfl dX0_token_242 ?_
                  refine v_iconst (pc := 245) C dX0_token_245 ci_1 ?_
                  refine v_isubE (v := nI x) (pc := 246) C dX0_token_246 (show nI σ.stk - nI 1 = nI x by rw [hx]; exact pk_sub (by omega)) ?_
                  refine v_istore (pc := 247) C dX0_token_247 (by decide) (lv' := [(4, .int (nI x)), (3, .int (nI (takesN k))), (0, .ref (ad 0)), (1, .int (nI k)), (2, .int a)]) rfl ?_
                  refine v_aload_n (pc := 249) C dX0_token_249 rfl 2 rfl ?_
                  refine v_aload_n (pc := 250) C dX0_token_250 rfl 2 rfl ?_
                  refine gxs_la (pc := 251) C dX0_token_251 ?_
                  refine v_iload (pc := 254) C dX0_token_254 0 rfl ?_
                  refine lxs_la (pc := 256) (j := x) (v := σ.la x) C rfl (by omega) dX0_token_256 ?_
                  refine v_aload_n (pc := 257) C dX0_token_257 rfl 2 rfl ?_
                  refine gxs_fi (pc := 258) C dX0_token_258 ?_
                  refine v_iload (pc := 261) C dX0_token_261 0 rfl ?_
                  refine lxs_fi (pc := 263) (j := x) (v := σ.fi x) C rfl (by omega) dX0_token_263 ?_
                  refine v_callv (pc := 264) C [.long (σ.la x), .long (σ.fi x)] 2 (met_x_lead (xs_tok σ (σ.tok + 1)) (σ.la x) (σ.fi x) (show σ.pl ≤ 40 by omega)) (lw_V q120 q122 qs4 q23 q123) (by decide +kernel) (by decide) (ci := 0) (q0 := 0) rfl rfl rfl rfl (Nat.le_of_ble_eq_true rfl) dX0_token_264 (fun u hu => ?_)
                  subst hu
                  refine v_aload_n (pc := 267) C dX0_token_267 rfl 2 rfl ?_
                  refine gxs_em (pc := 268) C dX0_token_268 ?_
                  refine v_iload (pc := 271) C dX0_token_271 0 rfl ?_
                  refine v_aload_n (pc := 273) C dX0_token_273 rfl 2 rfl ?_
                  refine gxs_em (pc := 274) C dX0_token_274 ?_
                  refine v_iload (pc := 277) C dX0_token_277 0 rfl ?_
                  refine lxs_em (pc := 279) (j := x) (v := σ.em x) C rfl (by omega) dX0_token_279 ?_
                  have J293 : vV X (xW ad ci cj cz (xs_fol (xs_tok σ (σ.tok + 1)) (ldF σ.fol (σ.la x) (σ.fi x) σ.pl))) 293 [(4, .int (nI x)), (3, .int (nI (takesN k))), (0, .ref (ad 0)), (1, .int (nI k)), (2, .int a)] [.int (bI (σ.em x || k == 5)), .int (nI x), .ref (ad 5)] := by
                    refine sxs_em (pc := 293) (j := x) (x := (σ.em x || k == 5)) C (by omega) dX0_token_293 ?_
                    refine v_aload_n (pc := 294) C dX0_token_294 rfl 2 rfl ?_
                    refine gxs_stk (pc := 295) (v := σ.stk) C rfl dX0_token_295 ?_
                    exact v_iret (pc := 298) C E (x_star (xs_tok σ (σ.tok + 1)) x (k == 5)) rfl (Or.inr ⟨hok, k, hk, rfl, rfl, Or.inr (Or.inr (Or.inr (Or.inr (Or.inr (Or.inr ⟨hk56, x, hx, rfl⟩)))))⟩) dX0_token_298
                  refine v_if_neB (pc := 280) (tgt := 288) C dX0_token_280 (by decide) (fun h280 => ?_) (fun h280 => ?_)
                  · skip
                    refine v_iconst (pc := 288) C dX0_token_288 cz_1 ?_
                    refine v_goto (tgt := 293) (pc := 289) C dX0_token_289 (by decide) ?_
                    exact v_st (congrArg (fun z9 => Value.int (bI z9) :: [.int (nI x), .ref (ad 5)]) (show true = (σ.em x || k == 5) from (by rw [h280]; rfl))) J293
                  · skip
                    refine v_iload_n (pc := 283) C dX0_token_283 rfl 3 rfl ?_
                    refine v_iconst (pc := 284) C dX0_token_284 ci_5 ?_
                    refine v_icmp_neN (pc := 285) (tgt := 292) C dX0_token_285 (by decide) (by omega) (by omega) (fun h285 => ?_) (fun h285 => ?_)
                    · skip
                      refine v_iconst (pc := 292) C dX0_token_292 cz_0 ?_
                      exact v_st (congrArg (fun z9 => Value.int (bI z9) :: [.int (nI x), .ref (ad 5)]) (show false = (σ.em x || k == 5) from (by rw [h280, beq_false_of_ne h285]; rfl))) J293
                    · skip
                      refine v_iconst (pc := 288) C dX0_token_288 cz_1 ?_
                      refine v_goto (tgt := 293) (pc := 289) C dX0_token_289 (by decide) ?_
                      exact v_st (congrArg (fun z9 => Value.int (bI z9) :: [.int (nI x), .ref (ad 5)]) (show true = (σ.em x || k == 5) from (by rw [h285]; simp))) J293
                · skip
                  subst h231
                  have ht1 : 1 ≤ σ.stk := ht1
                  obtain ⟨x, hx⟩ : ∃ x, σ.stk = x + 1 := ⟨σ.stk - 1, by omega⟩
                  refine v_aload_n (pc := 234) C dX0_token_234 rfl 1 rfl ?_
                  refine v_callv (pc := 235) C [] 0 (met_x_makeRule (xs_tok σ (σ.tok + 1)) x hx (show σ.stk ≤ 40 by omega) (ht3 rfl)) (lw_V q124 q126 qs5 q23 q127) (by decide +kernel) (by decide) (ci := 0) (q0 := 0) rfl rfl rfl rfl (Nat.le_of_ble_eq_true rfl) dX0_token_235 (fun u hu => ?_)
                  subst hu
                  refine v_goto (tgt := 294) (pc := 238) C dX0_token_238 (by decide) ?_
                  refine v_aload_n (pc := 294) C dX0_token_294 rfl 1 rfl ?_
                  refine gxs_stk (pc := 295) (v := x) C rfl dX0_token_295 ?_
                  exact v_iret (pc := 298) C E (x_rule (xs_tok σ (σ.tok + 1)) x) rfl (Or.inr ⟨hok, 7, hk, rfl, rfl, Or.inr (Or.inr (Or.inr (Or.inr (Or.inr (Or.inl ⟨rfl, x, hx, rfl⟩)))))⟩) dX0_token_298
              · skip
                subst h132
                have ht1 : 2 ≤ σ.stk := ht1
                obtain ⟨x, hx⟩ : ∃ x, σ.stk = x + 2 := ⟨σ.stk - 2, by omega⟩
                refine v_aload_n (pc := 135) C dX0_token_135 rfl 1 rfl ?_
                refine v_dup (pc := 136) C dX0_token_136 rfl ?_
                refine gxs_stk (pc := 137) (v := σ.stk) C rfl dX0_token_137 ?_
                refine v_iconst (pc := 140) C dX0_token_140 ci_1 ?_
                refine v_isubE (v := nI (x + 1)) (pc := 141) C dX0_token_141 (show nI σ.stk - nI 1 = nI (x + 1) by rw [hx]; exact pk_sub (by omega)) ?_
                refine pxs_stk (pc := 142) (v := x + 1) C dX0_token_142 ?_
                refine v_aload_n (pc := 145) C dX0_token_145 rfl 1 rfl ?_
                refine gxs_stk (pc := 146) (v := x + 1) C rfl dX0_token_146 ?_
                refine v_iconst (pc := 149) C dX0_token_149 ci_1 ?_
                refine v_isubE (v := nI x) (pc := 150) C dX0_token_150 (pk_sub (by omega)) ?_
                refine v_istore (pc := 151) C dX0_token_151 (by decide) (lv' := [(4, .int (nI x)), (3, .int (nI (takesN 4))), (0, .ref (ad 0)), (1, .int (nI 4)), (2, .int a)]) rfl ?_
                refine v_aload_n (pc := 153) C dX0_token_153 rfl 2 rfl ?_
                refine gxs_fi (pc := 154) C dX0_token_154 ?_
                refine v_iload (pc := 157) C dX0_token_157 0 rfl ?_
                refine v_dup2 (pc := 159) C dX0_token_159 rfl rfl ?_
                refine lxs_fi (pc := 160) (j := x) (v := σ.fi x) C rfl (by omega) dX0_token_160 ?_
                refine v_aload_n (pc := 161) C dX0_token_161 rfl 2 rfl ?_
                refine gxs_fi (pc := 162) C dX0_token_162 ?_
                refine v_iload (pc := 165) C dX0_token_165 0 rfl ?_
                refine v_iconst (pc := 167) C dX0_token_167 ci_1 ?_
                refine v_iaddN (pc := 168) C dX0_token_168 ?_
                refine lxs_fi (pc := 169) (j := x + 1) (v := σ.fi (x + 1)) C rfl (by omega) dX0_token_169 ?_
                refine v_lor (pc := 170) C dX0_token_170 ?_
                refine sxs_fi (pc := 171) (j := x) (x := (σ.fi x) ||| (σ.fi (x + 1))) C (by omega) dX0_token_171 ?_
                refine v_aload_n (pc := 172) C dX0_token_172 rfl 2 rfl ?_
                refine gxs_la (pc := 173) C dX0_token_173 ?_
                refine v_iload (pc := 176) C dX0_token_176 0 rfl ?_
                refine v_dup2 (pc := 178) C dX0_token_178 rfl rfl ?_
                refine lxs_la (pc := 179) (j := x) (v := σ.la x) C rfl (by omega) dX0_token_179 ?_
                refine v_aload_n (pc := 180) C dX0_token_180 rfl 2 rfl ?_
                refine gxs_la (pc := 181) C dX0_token_181 ?_
                refine v_iload (pc := 184) C dX0_token_184 0 rfl ?_
                refine v_iconst (pc := 186) C dX0_token_186 ci_1 ?_
                refine v_iaddN (pc := 187) C dX0_token_187 ?_
                refine lxs_la (pc := 188) (j := x + 1) (v := σ.la (x + 1)) C rfl (by omega) dX0_token_188 ?_
                refine v_lor (pc := 189) C dX0_token_189 ?_
                refine sxs_la (pc := 190) (j := x) (x := (σ.la x) ||| (σ.la (x + 1))) C (by omega) dX0_token_190 ?_
                refine v_aload_n (pc := 191) C dX0_token_191 rfl 2 rfl ?_
                refine gxs_em (pc := 192) C dX0_token_192 ?_
                refine v_iload (pc := 195) C dX0_token_195 0 rfl ?_
                refine v_aload_n (pc := 197) C dX0_token_197 rfl 2 rfl ?_
                refine gxs_em (pc := 198) C dX0_token_198 ?_
                refine v_iload (pc := 201) C dX0_token_201 0 rfl ?_
                refine lxs_em (pc := 203) (j := x) (v := σ.em x) C rfl (by omega) dX0_token_203 ?_
                have J224 : vV X (xW ad ci cj cz (xs_la (xs_fi (xs_stk (xs_tok σ (σ.tok + 1)) (x + 1)) (vp_updL σ.fi x ((σ.fi x) ||| (σ.fi (x + 1))))) (vp_updL σ.la x ((σ.la x) ||| (σ.la (x + 1)))))) 224 [(4, .int (nI x)), (3, .int (nI (takesN 4))), (0, .ref (ad 0)), (1, .int (nI 4)), (2, .int a)] [.int (bI (σ.em x || σ.em (x + 1))), .int (nI x), .ref (ad 5)] := by
                  refine sxs_em (pc := 224) (j := x) (x := (σ.em x || σ.em (x + 1))) C (by omega) dX0_token_224 ?_
                  refine v_goto (tgt := 294) (pc := 225) C dX0_token_225 (by decide) ?_
                  refine v_aload_n (pc := 294) C dX0_token_294 rfl 2 rfl ?_
                  refine gxs_stk (pc := 295) (v := x + 1) C rfl dX0_token_295 ?_
                  exact v_iret (pc := 298) C E (x_or (xs_tok σ (σ.tok + 1)) x) rfl (Or.inr ⟨hok, 4, hk, rfl, rfl, Or.inr (Or.inr (Or.inr (Or.inr (Or.inl ⟨rfl, x, hx, rfl⟩))))⟩) dX0_token_298
                refine v_if_neB (pc := 204) (tgt := 219) C dX0_token_204 (by decide) (fun h204 => ?_) (fun h204 => ?_)
                · skip
                  refine v_iconst (pc := 219) C dX0_token_219 cz_1 ?_
                  refine v_goto (tgt := 224) (pc := 220) C dX0_token_220 (by decide) ?_
                  exact v_st (congrArg (fun z9 => Value.int (bI z9) :: [.int (nI x), .ref (ad 5)]) (show true = (σ.em x || σ.em (x + 1)) from (by rw [h204]; rfl))) J224
                · skip
                  refine v_aload_n (pc := 207) C dX0_token_207 rfl 2 rfl ?_
                  refine gxs_em (pc := 208) C dX0_token_208 ?_
                  refine v_iload (pc := 211) C dX0_token_211 0 rfl ?_
                  refine v_iconst (pc := 213) C dX0_token_213 ci_1 ?_
                  refine v_iaddN (pc := 214) C dX0_token_214 ?_
                  refine lxs_em (pc := 215) (j := x + 1) (v := σ.em (x + 1)) C rfl (by omega) dX0_token_215 ?_
                  refine v_if_eqB (pc := 216) (tgt := 223) C dX0_token_216 (by decide) (fun h216 => ?_) (fun h216 => ?_)
                  · skip
                    refine v_iconst (pc := 223) C dX0_token_223 cz_0 ?_
                    exact v_st (congrArg (fun z9 => Value.int (bI z9) :: [.int (nI x), .ref (ad 5)]) (show false = (σ.em x || σ.em (x + 1)) from (by rw [h204, h216]; rfl))) J224
                  · skip
                    refine v_iconst (pc := 219) C dX0_token_219 cz_1 ?_
                    refine v_goto (tgt := 224) (pc := 220) C dX0_token_220 (by decide) ?_
                    exact v_st (congrArg (fun z9 => Value.int (bI z9) :: [.int (nI x), .ref (ad 5)]) (show true = (σ.em x || σ.em (x + 1)) from (by rw [h216, Bool.or_true]))) J224
            · skip
              subst h120
              have ht1 : 2 ≤ σ.stk := ht1
              obtain ⟨x, hx⟩ : ∃ x, σ.stk = x + 2 := ⟨σ.stk - 2, by omega⟩
              refine v_aload_n (pc := 123) C dX0_token_123 rfl 1 rfl ?_
              refine v_callv (pc := 124) C [] 0 (met_x_joinTwo (xs_tok σ (σ.tok + 1)) x hx (show σ.stk ≤ 40 by omega) (show σ.pl ≤ 40 by omega)) (lw_V q116 q118 qs3 q23 q119) (by decide +kernel) (by decide) (ci := 0) (q0 := 0) rfl rfl rfl rfl (Nat.le_of_ble_eq_true rfl) dX0_token_124 (fun u hu => ?_)
              subst hu
              refine v_goto (tgt := 294) (pc := 127) C dX0_token_127 (by decide) ?_
              refine v_aload_n (pc := 294) C dX0_token_294 rfl 1 rfl ?_
              refine gxs_stk (pc := 295) (v := x + 1) C rfl dX0_token_295 ?_
              exact v_iret (pc := 298) C E (x_join (xs_tok σ (σ.tok + 1)) x (x + 1)) rfl (Or.inr ⟨hok, 3, hk, rfl, rfl, Or.inr (Or.inr (Or.inr (Or.inl ⟨rfl, x, hx, rfl⟩)))⟩) dX0_token_298
          · skip
            subst h105
            refine v_aload_n (pc := 108) C dX0_token_108 rfl 1 rfl ?_
            refine v_lconst (pc := 109) C dX0_token_109 cl_0 ?_
            refine v_lconst (pc := 110) C dX0_token_110 cl_0 ?_
            refine v_iconst (pc := 111) C dX0_token_111 cz_1 ?_
            refine v_callv (pc := 112) C [.long 0, .long 0, .int (bI true)] 3 (met_x_push (xs_tok σ (σ.tok + 1)) 0 0 true (show σ.stk < 40 by omega)) (lw_V q112 q114 qs2 q23 q115) (by decide +kernel) (by decide) (ci := 0) (q0 := 0) rfl rfl rfl rfl (Nat.le_of_ble_eq_true rfl) dX0_token_112 (fun u hu => ?_)
            subst hu
            refine v_goto (tgt := 294) (pc := 115) C dX0_token_115 (by decide) ?_
            refine v_aload_n (pc := 294) C dX0_token_294 rfl 1 rfl ?_
            refine gxs_stk (pc := 295) (v := σ.stk + 1) C rfl dX0_token_295 ?_
            exact v_iret (pc := 298) C E (x_push (xs_tok σ (σ.tok + 1)) 0 0 true) rfl (Or.inr ⟨hok, 2, hk, rfl, rfl, Or.inr (Or.inr (Or.inl ⟨rfl, rfl⟩))⟩) dX0_token_298
        · skip
          subst h91
          refine v_aload_n (pc := 94) C dX0_token_94 rfl 1 rfl ?_
          refine v_bipush (pc := 95) C dX0_token_95 cb_15 ?_
          refine v_callv (pc := 97) C [.int (nI 15)] 1 (met_x_pushPlace (xs_tok σ (σ.tok + 1)) 15 (by decide) (show σ.pl < 40 by omega) (show σ.stk < 40 by omega)) (lw_V q108 q110 qs1 q23 q111) (by decide +kernel) (by decide) (ci := 0) (q0 := 0) rfl rfl rfl rfl (Nat.le_of_ble_eq_true rfl) dX0_token_97 (fun u hu => ?_)
          subst hu
          refine v_goto (tgt := 294) (pc := 100) C dX0_token_100 (by decide) ?_
          refine v_aload_n (pc := 294) C dX0_token_294 rfl 1 rfl ?_
          refine gxs_stk (pc := 295) (v := σ.stk + 1) C rfl dX0_token_295 ?_
          exact v_iret (pc := 298) C E (x_pushPlace (xs_tok σ (σ.tok + 1)) 15) rfl (Or.inr ⟨hok, 1, hk, rfl, rfl, Or.inr (Or.inl ⟨rfl, rfl⟩)⟩) dX0_token_298
      · skip
        subst h74
        refine v_aload_n (pc := 77) C dX0_token_77 rfl 1 rfl ?_
        refine v_iconst (pc := 78) C dX0_token_78 ci_1 ?_
        refine v_iload_n (pc := 79) C dX0_token_79 rfl 3 rfl ?_
        refine v_iconst (pc := 80) C dX0_token_80 ci_3 ?_
        refine v_iandE (v := nI (a3 a)) (pc := 81) C dX0_token_81 (a3_and a) ?_
        refine v_ishlE (v := nI (2 ^ a3 a)) (pc := 82) C dX0_token_82 (sh1 _ (a3_lt a)) ?_
        refine v_callv (pc := 83) C [.int (nI (2 ^ a3 a))] 1 (met_x_pushPlace (xs_tok σ (σ.tok + 1)) (2 ^ a3 a) (p16 _ (a3_lt a)) (show σ.pl < 40 by omega) (show σ.stk < 40 by omega)) (lw_V q108 q110 qs1 q23 q111) (by decide +kernel) (by decide) (ci := 0) (q0 := 0) rfl rfl rfl rfl (Nat.le_of_ble_eq_true rfl) dX0_token_83 (fun u hu => ?_)
        subst hu
        refine v_goto (tgt := 294) (pc := 86) C dX0_token_86 (by decide) ?_
        refine v_aload_n (pc := 294) C dX0_token_294 rfl 1 rfl ?_
        refine gxs_stk (pc := 295) (v := σ.stk + 1) C rfl dX0_token_295 ?_
        exact v_iret (pc := 298) C E (x_pushPlace (xs_tok σ (σ.tok + 1)) (2 ^ a3 a)) rfl (Or.inr ⟨hok, 0, hk, rfl, rfl, Or.inl ⟨rfl, rfl⟩⟩) dX0_token_298
    have J20 : vV X (xW ad ci cj cz σ) 20 [(3, .int (nI (takesN k))), (0, .ref (ad 0)), (1, .int (nI k)), (2, .int a)] [] := by
      have htl : takesN k ≤ 2 := by unfold takesN; split; omega; split <;> omega
      refine v_iload_n (pc := 20) C dX0_token_20 rfl 2 rfl ?_
      refine v_if_lt (pc := 21) (tgt := 61) C dX0_token_21 (by decide) (fun h21 => ?_) (fun h21 => ?_)
      · skip
        exact absurd h21 (nI_pos (by omega))
      · skip
        refine v_iload_n (pc := 24) C dX0_token_24 rfl 2 rfl ?_
        refine v_bipush (pc := 25) C dX0_token_25 cb_7 ?_
        refine v_icmp_gtN (pc := 27) (tgt := 61) C dX0_token_27 (by decide) (by omega) (by omega) (fun h27 => ?_) (fun h27 => ?_)
        · skip
          exact absurd h27 (by omega)
        · skip
          refine v_aload_n (pc := 30) C dX0_token_30 rfl 1 rfl ?_
          refine gxs_stk (pc := 31) (v := σ.stk) C rfl dX0_token_31 ?_
          refine v_iload_n (pc := 34) C dX0_token_34 rfl 0 rfl ?_
          refine v_icmp_ltN (pc := 35) (tgt := 61) C dX0_token_35 (by decide) (by omega) (by omega) (fun h35 => ?_) (fun h35 => ?_)
          · skip
            refine v_iconst (pc := 61) C dX0_token_61 ci_m1 ?_
            exact v_iret (pc := 62) C E σ rfl (Or.inl ⟨(by rintro ⟨j, hj, ej, h1, h2, h3⟩; obtain rfl := tk_inj hk hj ej; first | omega | exact absurd (h3 (by omega)) (by omega)), rfl, rfl⟩) dX0_token_62
          · skip
            refine v_aload_n (pc := 38) C dX0_token_38 rfl 1 rfl ?_
            refine gxs_tok (pc := 39) (v := σ.tok) C rfl dX0_token_39 ?_
            refine v_bipush (pc := 42) C dX0_token_42 cb_40 ?_
            refine v_icmp_geN (pc := 44) (tgt := 61) C dX0_token_44 (by decide) (by omega) (by omega) (fun h44 => ?_) (fun h44 => ?_)
            · skip
              refine v_iconst (pc := 61) C dX0_token_61 ci_m1 ?_
              exact v_iret (pc := 62) C E σ rfl (Or.inl ⟨(by rintro ⟨j, hj, ej, h1, h2, h3⟩; obtain rfl := tk_inj hk hj ej; first | omega | exact absurd (h3 (by omega)) (by omega)), rfl, rfl⟩) dX0_token_62
            · skip
              refine v_iload_n (pc := 47) C dX0_token_47 rfl 2 rfl ?_
              refine v_bipush (pc := 48) C dX0_token_48 cb_7 ?_
              refine v_icmp_neN (pc := 50) (tgt := 63) C dX0_token_50 (by decide) (by omega) (by omega) (fun h50 => ?_) (fun h50 => ?_)
              · skip
                exact J63 (by omega) (by omega) (by omega)
              · skip
                refine v_aload_n (pc := 53) C dX0_token_53 rfl 1 rfl ?_
                refine gxs_rul (pc := 54) (v := σ.rul) C rfl dX0_token_54 ?_
                refine v_iconst (pc := 57) C dX0_token_57 ci_5 ?_
                refine v_icmp_ltN (pc := 58) (tgt := 63) C dX0_token_58 (by decide) (by omega) (by omega) (fun h58 => ?_) (fun h58 => ?_)
                · skip
                  exact J63 (by omega) (by omega) (by omega)
                · skip
                  refine v_iconst (pc := 61) C dX0_token_61 ci_m1 ?_
                  exact v_iret (pc := 62) C E σ rfl (Or.inl ⟨(by rintro ⟨j, hj, ej, h1, h2, h3⟩; obtain rfl := tk_inj hk hj ej; first | omega | exact absurd (h3 (by omega)) (by omega)), rfl, rfl⟩) dX0_token_62
    refine v_iload_n (pc := 0) C dX0_token_0 rfl 1 rfl ?_
    refine v_iconst (pc := 1) C dX0_token_1 ci_3 ?_
    refine v_icmp_geN (pc := 2) (tgt := 9) C dX0_token_2 (by decide) (by omega) (by omega) (fun h2 => ?_) (fun h2 => ?_)
    · skip
      refine v_iload_n (pc := 9) C dX0_token_9 rfl 1 rfl ?_
      refine v_iconst (pc := 10) C dX0_token_10 ci_5 ?_
      refine v_icmp_geN (pc := 11) (tgt := 18) C dX0_token_11 (by decide) (by omega) (by omega) (fun h11 => ?_) (fun h11 => ?_)
      · skip
        refine v_iconst (pc := 18) C dX0_token_18 ci_1 ?_
        refine v_istore_n (pc := 19) C dX0_token_19 rfl (by decide) (lv' := [(3, .int (nI 1)), (0, .ref (ad 0)), (1, .int (nI k)), (2, .int a)]) rfl ?_
        exact v_lv (congrArg (fun z9 => [(3, Value.int (nI z9)), (0, Value.ref (ad 0)), (1, Value.int (nI k)), (2, Value.int a)]) (show 1 = takesN k from (by unfold takesN; rw [if_neg (by omega), if_neg (by omega)]))) J20
      · skip
        refine v_iconst (pc := 14) C dX0_token_14 ci_2 ?_
        refine v_goto (tgt := 19) (pc := 15) C dX0_token_15 (by decide) ?_
        refine v_istore_n (pc := 19) C dX0_token_19 rfl (by decide) (lv' := [(3, .int (nI 2)), (0, .ref (ad 0)), (1, .int (nI k)), (2, .int a)]) rfl ?_
        exact v_lv (congrArg (fun z9 => [(3, Value.int (nI z9)), (0, Value.ref (ad 0)), (1, Value.int (nI k)), (2, Value.int a)]) (show 2 = takesN k from (by unfold takesN; rw [if_neg (by omega), if_pos h11]))) J20
    · skip
      refine v_iconst (pc := 5) C dX0_token_5 ci_0 ?_
      refine v_goto (tgt := 19) (pc := 6) C dX0_token_6 (by decide) ?_
      refine v_istore_n (pc := 19) C dX0_token_19 rfl (by decide) (lv' := [(3, .int (nI 0)), (0, .ref (ad 0)), (1, .int (nI k)), (2, .int a)]) rfl ?_
      exact v_lv (congrArg (fun z9 => [(3, Value.int (nI z9)), (0, Value.ref (ad 0)), (1, Value.int (nI k)), (2, Value.int a)]) (show 0 = takesN k from (if_pos h2).symm)) J20
end XK
end
section
set_option maxRecDepth 100000
section XP
/-- the places that may come next behind state k -/
def opn (σ : XS) (k : Nat) : Int64 := if k = 0 then orA σ.rf σ.rul else flw σ.fol (σ.sset k) σ.pl
/-- the least rule that ends in state k -/
def eOf (σ : XS) (k : Nat) : Int32 := if k = 0 then lu σ.re σ.rul 0 else lu (fun r => decide (¬ σ.sset k &&& σ.rl r = 0)) σ.rul 0
/-- the table tells the truth; Gd: what is known of the sets in it -/
def TI (Gd : Int64 → Prop) (σ : XS) : Prop := 1 ≤ σ.sts ∧ σ.sts ≤ 48 ∧ (∀ k, k < σ.sts → σ.ends k = eOf σ k) ∧ (∀ k a, k < σ.sts → a < 4 → σ.nxt (4 * k + a) = -1 ∨ ∃ t, 1 ≤ t ∧ t < σ.sts ∧ σ.nxt (4 * k + a) = nI t ∧ σ.sset t = opn σ k &&& σ.lp a) ∧ ∀ k, 1 ≤ k → k < σ.sts → Gd (σ.sset k)
/-- σ with u's table -/
def xTb (σ u : XS) : XS := xs_nxt (xs_ends (xs_sset (xs_sts σ u.sts) u.sset) u.ends) u.nxt
def Gcl (Gd : Int64 → Prop) (σ : XS) : Prop := (∀ a, a < 4 → Gd (orA σ.rf σ.rul &&& σ.lp a)) ∧ ∀ w a, a < 4 → Gd w → Gd (flw σ.fol w σ.pl &&& σ.lp a)
theorem xTb_trans {σ τ u : XS} (h1 : τ = xTb σ τ) (h2 : u = xTb τ u) : u = xTb σ u := by
  rw [h1] at h2
  exact h2
theorem xTb_rfl (σ : XS) : σ = xTb σ σ := rfl
theorem Gcl_tb {Gd : Int64 → Prop} {σ τ : XS} (h : τ = xTb σ τ) (hG : Gcl Gd σ) : Gcl Gd τ := by
  rw [h]
  exact hG
theorem TI_empty (Gd : Int64 → Prop) (σ : XS) : TI Gd (x_empty σ) := by
  refine ⟨Nat.le_refl _, by show 1 ≤ 48; decide, ?_, ?_, ?_⟩
  · intro k hk
    have hk : k < 1 := hk
    obtain rfl : k = 0 := by omega
    show upd σ.ends 0 (lu σ.re σ.rul 0) 0 = _
    rw [pk_us]
    rfl
  · intro k a hk ha
    have hk : k < 1 := hk
    obtain rfl : k = 0 := by omega
    left
    show fiI σ.nxt 0 (-1) 4 (4 * 0 + a) = -1
    rw [fiI_at, if_pos (by omega)]
  · intro k h1 h2
    have h2 : k < 1 := h2
    omega
theorem TI_make {Gd : Int64 → Prop} {σ : XS} {w : Int64} (h : TI Gd σ) (hs : σ.sts < 48) (hw : Gd w) : TI Gd (x_make σ w) := by
  obtain ⟨h1, h2, h3, h4, h5⟩ := h
  have same : ∀ k, k < σ.sts → (x_make σ w).sset k = σ.sset k := fun k hk => pk_uLn (by omega)
  have new : (x_make σ w).sset σ.sts = w := pk_uLs
  have ho : ∀ k, k < σ.sts → opn (x_make σ w) k = opn σ k := by
    intro k hk
    show (if k = 0 then orA σ.rf σ.rul else flw σ.fol ((x_make σ w).sset k) σ.pl) = _
    rw [same k hk]
    rfl
  refine ⟨by show 1 ≤ σ.sts + 1; omega, by show σ.sts + 1 ≤ 48; omega, ?_, ?_, ?_⟩
  · intro k hk
    have hk : k < σ.sts + 1 := hk
    by_cases e : k = σ.sts
    · subst e
      show upd σ.ends σ.sts (lu (fun r => decide (¬ w &&& σ.rl r = 0)) σ.rul 0) σ.sts = (if σ.sts = 0 then _ else lu (fun r => decide (¬ (x_make σ w).sset σ.sts &&& σ.rl r = 0)) σ.rul 0)
      rw [pk_us, if_neg (by omega), new]
    · show upd σ.ends σ.sts (lu (fun r => decide (¬ w &&& σ.rl r = 0)) σ.rul 0) k = (if k = 0 then lu σ.re σ.rul 0 else lu (fun r => decide (¬ (x_make σ w).sset k &&& σ.rl r = 0)) σ.rul 0)
      rw [pk_un e, same k (by omega)]
      exact h3 k (by omega)
  · intro k a hk ha
    have hk : k < σ.sts + 1 := hk
    by_cases e : k = σ.sts
    · subst e
      left
      show fiI σ.nxt (4 * σ.sts) (-1) 4 (4 * σ.sts + a) = -1
      rw [fiI_at, if_pos (by omega)]
    · have hk : k < σ.sts := by omega
      have en : (x_make σ w).nxt (4 * k + a) = σ.nxt (4 * k + a) := by
        show fiI σ.nxt (4 * σ.sts) (-1) 4 (4 * k + a) = _
        rw [fiI_at, if_neg (by omega)]
      rcases h4 k a hk ha with q | ⟨t, q1, q2, q3, q4⟩
      · left
        rw [en]
        exact q
      · right
        refine ⟨t, q1, by show t < σ.sts + 1; omega, by rw [en]; exact q3, ?_⟩
        rw [same t q2, ho k hk]
        exact q4
  · intro k k1 k2
    have k2 : k < σ.sts + 1 := k2
    by_cases e : k = σ.sts
    · subst e
      rw [new]
      exact hw
    · rw [same k (by omega)]
      exact h5 k k1 (by omega)
theorem TI_nxt {Gd : Int64 → Prop} {σ : XS} {k a t : Nat} (h : TI Gd σ) (_hk : k < σ.sts) (ha : a < 4) (ht1 : 1 ≤ t) (ht : t < σ.sts) (hs : σ.sset t = opn σ k &&& σ.lp a) : TI Gd (xs_nxt σ (upd σ.nxt (4 * k + a) (nI t))) := by
  obtain ⟨h1, h2, h3, h4, h5⟩ := h
  refine ⟨h1, h2, h3, ?_, h5⟩
  intro k' a' hk' ha'
  by_cases e : 4 * k' + a' = 4 * k + a
  · obtain rfl : k' = k := by omega
    obtain rfl : a' = a := by omega
    right
    exact ⟨t, ht1, ht, pk_us, hs⟩
  · have en : (xs_nxt σ (upd σ.nxt (4 * k + a) (nI t))).nxt (4 * k' + a') = σ.nxt (4 * k' + a') := pk_un e
    rw [en]
    exact h4 k' a' hk' ha'
/-- the set of places behind n + 1 letters of f from i on, when those of o may come first -/
def rsO (σ : XS) (o : Int64) (f : Nat → Nat) (i : Nat) : Nat → Int64
  | 0 => o &&& σ.lp (f i)
  | n + 1 => flw σ.fol (rsO σ o f i n) σ.pl &&& σ.lp (f (i + n + 1))
/-- rule r takes the piece i .. j of f -/
def acX (σ : XS) (f : Nat → Nat) (i j r : Nat) : Bool := if i = j then σ.re r else decide (¬ rsO σ (orA σ.rf σ.rul) f i (j - i - 1) &&& σ.rl r = 0)
/-- the least rule that takes the piece -/
def gX (σ : XS) (f : Nat → Nat) (i j : Nat) : Int32 := lu (acX σ f i j) σ.rul 0
theorem gX_neg {σ : XS} {f : Nat → Nat} {i j : Nat} (h : ¬ 0 ≤ gX σ f i j) (hr : σ.rul ≤ 5) : gX σ f i j = -1 := by
  rcases lu_spec (b := acX σ f i j) σ.rul 0 with ⟨e, _⟩ | ⟨r, _, h2, e, _⟩
  · exact e
  · exact absurd (show 0 ≤ gX σ f i j by rw [gX, e]; exact nI_pos' (by omega)) h
/-- state t of τ stands for the piece i .. j -/
def stInv (τ σ : XS) (f : Nat → Nat) (i j t : Nat) : Prop := (i = j ∧ t = 0) ∨ (i < j ∧ 1 ≤ t ∧ t < τ.sts ∧ τ.sset t = rsO σ (orA σ.rf σ.rul) f i (j - i - 1))
theorem stInv_lt {Gd : Int64 → Prop} {τ σ : XS} {f : Nat → Nat} {i j t : Nat} (hT : TI Gd τ) (h : stInv τ σ f i j t) : t < τ.sts := by
  rcases h with ⟨_, rfl⟩ | ⟨_, _, h, _⟩
  · exact hT.1
  · exact h
theorem stInv_ends {Gd : Int64 → Prop} {τ σ : XS} {f : Nat → Nat} {i j t : Nat} (hT : TI Gd τ) (hr : τ.rul = σ.rul) (hre : τ.re = σ.re) (hrl : τ.rl = σ.rl) (h : stInv τ σ f i j t) : τ.ends t = gX σ f i j := by
  rw [hT.2.2.1 t (stInv_lt hT h)]
  unfold eOf gX
  rcases h with ⟨rfl, rfl⟩ | ⟨h1, h2, _, h4⟩
  · rw [if_pos rfl, hr, hre]
    refine lu_cong _ _ (fun r _ _ => ?_)
    unfold acX
    rw [if_pos rfl]
  · rw [if_neg (by omega), hr, hrl, h4]
    refine lu_cong _ _ (fun r _ _ => ?_)
    unfold acX
    rw [if_neg (by omega)]
theorem stInv_opn {τ σ : XS} {f : Nat → Nat} {i j t : Nat} (hrf : τ.rf = σ.rf) (hr : τ.rul = σ.rul) (hf : τ.fol = σ.fol) (hp : τ.pl = σ.pl) (hl : τ.lp = σ.lp) (h : stInv τ σ f i j t) : opn τ t &&& τ.lp (f j) = rsO σ (orA σ.rf σ.rul) f i (j + 1 - i - 1) := by
  unfold opn
  rcases h with ⟨rfl, rfl⟩ | ⟨h1, h2, _, h4⟩
  · rw [if_pos rfl, hrf, hr, hl, show i + 1 - i - 1 = 0 by omega]
    rfl
  · rw [if_neg (by omega), h4, hf, hp, hl]
    obtain ⟨n, hn⟩ : ∃ n, j - i - 1 = n := ⟨_, rfl⟩
    rw [show j + 1 - i - 1 = n + 1 by omega, hn]
    show _ = flw σ.fol (rsO σ (orA σ.rf σ.rul) f i n) σ.pl &&& σ.lp (f (i + n + 1))
    rw [show i + n + 1 = j by omega]
theorem flw_0 (fo : Nat → Int64) : ∀ n, flw fo 0 n = 0 := by
  intro n
  apply lb_ext
  intro p
  rw [lb_0]
  cases e : lb (flw fo 0 n) p with
  | false => rfl
  | true =>
    obtain ⟨q, _, h, _⟩ := (lb_flw fo 0 p n).mp e
    rw [lb_0] at h
    exact absurd h (by decide)
theorem and_0l (w : Int64) : 0 &&& w = 0 := by
  apply lb_ext
  intro p
  rw [lb_and, lb_0]
  rfl
/-- no place left: none comes again -/
theorem rsO_dead {σ : XS} {o : Int64} {f : Nat → Nat} {i n : Nat} (h : rsO σ o f i n = 0) : ∀ m, rsO σ o f i (n + m) = 0 := by
  intro m
  induction m with
  | zero => exact h
  | succ m ih =>
    show flw σ.fol (rsO σ o f i (n + m)) σ.pl &&& _ = 0
    rw [ih, flw_0, and_0l]
theorem gX_dead {σ : XS} {f : Nat → Nat} {i k : Nat} (hik : i < k) (h : rsO σ (orA σ.rf σ.rul) f i (k - i - 1) = 0) : ∀ j, k ≤ j → gX σ f i j = -1 := by
  intro j hj
  rcases lu_spec (b := acX σ f i j) σ.rul 0 with ⟨e, _⟩ | ⟨r, _, _, _, h4⟩
  · exact e
  · exfalso
    unfold acX at h4
    rw [if_neg (by omega)] at h4
    have e := rsO_dead h (j - k)
    rw [show k - i - 1 + (j - k) = j - i - 1 by omega] at e
    rw [e, and_0l] at h4
    exact absurd h4 (by decide)
/-- where the word that begins at i ends, when n more letters are there -/
def endF (g : Nat → Int32) (i : Nat) : Nat → Nat
  | 0 => i + 1
  | n + 1 => if 0 ≤ g (i + n + 1) then i + n + 1 else endF g i n
theorem endF_gt (g : Nat → Int32) (i : Nat) : ∀ n, i < endF g i n := by
  intro n
  induction n with
  | zero => exact Nat.lt_succ_self i
  | succ n ih =>
    show i < (if 0 ≤ g (i + n + 1) then i + n + 1 else endF g i n)
    split
    · omega
    · exact ih
theorem endF_le (g : Nat → Int32) (i : Nat) : ∀ n, 1 ≤ n → endF g i n ≤ i + n := by
  intro n
  induction n with
  | zero => intro h; omega
  | succ n ih =>
    intro _
    show (if 0 ≤ g (i + n + 1) then i + n + 1 else endF g i n) ≤ _
    split
    · omega
    · by_cases e : n = 0
      · subst e
        exact Nat.le_refl _
      · have := ih (by omega)
        omega
theorem endF_skip {g : Nat → Int32} {i k : Nat} (h : ∀ j, i + k < j → ¬ 0 ≤ g j) : ∀ m, endF g i (k + m) = endF g i k := by
  intro m
  induction m with
  | zero => rfl
  | succ m ih =>
    show (if 0 ≤ g (i + (k + m) + 1) then _ else endF g i (k + m)) = _
    rw [if_neg (h _ (by omega)), ih]
theorem endF_cong {g h : Nat → Int32} {i : Nat} : ∀ n, (∀ j, i < j → j ≤ i + n → g j = h j) → endF g i n = endF h i n := by
  intro n
  induction n with
  | zero => intro _; rfl
  | succ n ih =>
    intro q
    show (if 0 ≤ g (i + n + 1) then i + n + 1 else endF g i n) = (if 0 ≤ h (i + n + 1) then i + n + 1 else endF h i n)
    rw [q (i + n + 1) (by omega) (by omega), ih (fun j h1 h2 => q j h1 (by omega))]
/-- where the words begin -/
def ats (en : Nat → Nat) : Nat → Nat
  | 0 => 0
  | n + 1 => en (ats en n)
theorem ats_ge {en : Nat → Nat} (h : ∀ i, i < en i) : ∀ n, n ≤ ats en n := by
  intro n
  induction n with
  | zero => exact Nat.le_refl _
  | succ n ih =>
    show n + 1 ≤ en (ats en n)
    have := h (ats en n)
    omega
/-- the words that the text is cut into -/
def cutR (g : Nat → Nat → Int32) (en : Nat → Nat) (tl wc : Nat) (wso : Nat → Int32) (wle : Nat → Nat) : Prop :=
  wc ≤ 30 ∧ tl ≤ ats en wc ∧ ∀ c, c < wc → ats en c < tl ∧ wso c = g (ats en c) (en (ats en c)) ∧ wle c = en (ats en c) - ats en c
/-- sortOf's answer -/
def sOf (g : Nat → Nat → Int32) (len : Nat) (p q : Int32) : Int32 := if p < 0 ∨ q < p ∨ nI len < q then -2 else g p.toNatClampNeg q.toNatClampNeg
theorem so_good {p q : Int32} {n : Nat} (hn : n ≤ 30) (h : ¬ (p < 0 ∨ q < p ∨ nI n < q)) : ∃ i j, p = nI i ∧ q = nI j ∧ i ≤ j ∧ j ≤ n := by
  have h1 : ¬ p < 0 := fun z => h (Or.inl z)
  have h2 : ¬ q < p := fun z => h (Or.inr (Or.inl z))
  have h3 : ¬ nI n < q := fun z => h (Or.inr (Or.inr z))
  have h4 : ¬ q < 0 := by
    intro z
    apply h2
    rw [Int32.lt_iff_toInt_lt] at *
    rw [Int32.toInt_zero] at *
    omega
  obtain ⟨i, hi, rfl⟩ := nI_of h1
  obtain ⟨j, hj, rfl⟩ := nI_of h4
  refine ⟨i, j, rfl, rfl, ?_, ?_⟩
  · rcases Nat.lt_or_ge j i with z | z
    · exact absurd (nI_lt z hi) h2
    · exact z
  · rcases Nat.lt_or_ge n j with z | z
    · exact absurd (nI_lt z hj) h3
    · exact z
end XP
end
section
set_option maxRecDepth 100000
section XS4
theorem tb_tok {σ τ : XS} (h : τ = xTb σ τ) : τ.tok = σ.tok := (congrArg XS.tok h : τ.tok = (xTb σ τ).tok)
theorem tb_pl {σ τ : XS} (h : τ = xTb σ τ) : τ.pl = σ.pl := (congrArg XS.pl h : τ.pl = (xTb σ τ).pl)
theorem tb_fol {σ τ : XS} (h : τ = xTb σ τ) : τ.fol = σ.fol := (congrArg XS.fol h : τ.fol = (xTb σ τ).fol)
theorem tb_lp {σ τ : XS} (h : τ = xTb σ τ) : τ.lp = σ.lp := (congrArg XS.lp h : τ.lp = (xTb σ τ).lp)
theorem tb_stk {σ τ : XS} (h : τ = xTb σ τ) : τ.stk = σ.stk := (congrArg XS.stk h : τ.stk = (xTb σ τ).stk)
theorem tb_fi {σ τ : XS} (h : τ = xTb σ τ) : τ.fi = σ.fi := (congrArg XS.fi h : τ.fi = (xTb σ τ).fi)
theorem tb_la {σ τ : XS} (h : τ = xTb σ τ) : τ.la = σ.la := (congrArg XS.la h : τ.la = (xTb σ τ).la)
theorem tb_em {σ τ : XS} (h : τ = xTb σ τ) : τ.em = σ.em := (congrArg XS.em h : τ.em = (xTb σ τ).em)
theorem tb_rul {σ τ : XS} (h : τ = xTb σ τ) : τ.rul = σ.rul := (congrArg XS.rul h : τ.rul = (xTb σ τ).rul)
theorem tb_rf {σ τ : XS} (h : τ = xTb σ τ) : τ.rf = σ.rf := (congrArg XS.rf h : τ.rf = (xTb σ τ).rf)
theorem tb_rl {σ τ : XS} (h : τ = xTb σ τ) : τ.rl = σ.rl := (congrArg XS.rl h : τ.rl = (xTb σ τ).rl)
theorem tb_re {σ τ : XS} (h : τ = xTb σ τ) : τ.re = σ.re := (congrArg XS.re h : τ.re = (xTb σ τ).re)
theorem tb_tl {σ τ : XS} (h : τ = xTb σ τ) : τ.tl = σ.tl := (congrArg XS.tl h : τ.tl = (xTb σ τ).tl)
theorem tb_txt {σ τ : XS} (h : τ = xTb σ τ) : τ.txt = σ.txt := (congrArg XS.txt h : τ.txt = (xTb σ τ).txt)
theorem tb_wc {σ τ : XS} (h : τ = xTb σ τ) : τ.wc = σ.wc := (congrArg XS.wc h : τ.wc = (xTb σ τ).wc)
theorem tb_wso {σ τ : XS} (h : τ = xTb σ τ) : τ.wso = σ.wso := (congrArg XS.wso h : τ.wso = (xTb σ τ).wso)
theorem tb_wle {σ τ : XS} (h : τ = xTb σ τ) : τ.wle = σ.wle := (congrArg XS.wle h : τ.wle = (xTb σ τ).wle)
set_option maxHeartbeats 4000000 in
theorem met_x_step {l : Launch} {D : va_G} {ad : Nat → Nat} {ci cj cz : ClassId} (σ : XS) {Gd : Int64 → Prop} (k a : Nat) (hk : k < σ.sts) (ha : a < 4) (hT : TI Gd σ) (hG : Gcl Gd σ) (hp : σ.pl ≤ 40) (hr : σ.rul ≤ 5) : vMi l D (vTy ci cj cz) yX0_step cX0_step 8 (some .int) 1 [.ref (ad 0), .int (nI k), .int (nI a)] (xW ad ci cj cz σ) ad 15 (fun r u => ∃ t, r = nI t ∧ 1 ≤ t ∧ t < u.sts ∧ u.sset t = opn σ k &&& σ.lp a ∧ TI Gd u ∧ u = xTb σ u) (xW ad ci cj cz) := by
  refine vMi_of (by decide) (Nat.le_of_ble_eq_true rfl) xW_at ?_
  intro X C E
  have C : vC X cX0_step RX0 8 (vTy ci cj cz) (vRm 1) ad 15 := C
  refine v_lv (lv' := [(0, .ref (ad 0)), (1, .int (nI k)), (2, .int (nI a))]) rfl ?_
  have hs1 : 1 ≤ σ.sts := hT.1
  have hs48 : σ.sts ≤ 48 := hT.2.1
  have hgw : Gd (opn σ k &&& σ.lp a) := by
    unfold opn
    by_cases e : k = 0
    · rw [if_pos e]; exact hG.1 a ha
    · rw [if_neg e]; exact hG.2 _ a ha (hT.2.2.2.2 k (by omega) hk)
  refine v_aload_n (pc := 0) C dX0_step_0 rfl 0 rfl ?_
  refine gxs_nxt (pc := 1) C dX0_step_1 ?_
  refine v_iconst (pc := 4) C dX0_step_4 ci_4 ?_
  refine v_iload_n (pc := 5) C dX0_step_5 rfl 1 rfl ?_
  refine v_imulN (pc := 6) C dX0_step_6 ?_
  refine v_iload_n (pc := 7) C dX0_step_7 rfl 2 rfl ?_
  refine v_iaddN (pc := 8) C dX0_step_8 ?_
  refine lxs_nxt (pc := 9) (j := (4 * k) + a) (v := σ.nxt ((4 * k) + a)) C rfl (by omega) dX0_step_9 ?_
  refine v_if_lt (pc := 10) (tgt := 24) C dX0_step_10 (by decide) (fun h10 => ?_) (fun h10 => ?_)
  · skip
    refine v_iload_n (pc := 24) C dX0_step_24 rfl 1 rfl ?_
    have J45 : vV X (xW ad ci cj cz σ) 45 [(0, .ref (ad 0)), (1, .int (nI k)), (2, .int (nI a))] [.long (opn σ k)] := by
      refine v_lstore_n (pc := 45) C dX0_step_45 rfl (by decide) (lv' := [(3, .long (opn σ k)), (0, .ref (ad 0)), (1, .int (nI k)), (2, .int (nI a))]) rfl ?_
      refine v_aload_n (pc := 46) C dX0_step_46 rfl 1 rfl ?_
      refine v_lload_n (pc := 47) C dX0_step_47 rfl 0 rfl ?_
      refine v_iload_n (pc := 48) C dX0_step_48 rfl 3 rfl ?_
      refine v_calll (pc := 49) C [.long (opn σ k), .int (nI a)] 2 (met_x_advance σ (opn σ k) a ha) (lw_V q164 q166 qs11 q23 q167) (by decide +kernel) (by decide) (ci := 0) (q0 := 0) rfl rfl rfl rfl (Nat.le_of_ble_eq_true rfl) dX0_step_49 (fun r u hu => ?_)
      obtain ⟨rfl, hu⟩ := hu
      rw [hu]
      refine v_lstore (pc := 52) C dX0_step_52 (by decide) (lv' := [(5, .long (opn σ k &&& σ.lp a)), (3, .long (opn σ k)), (0, .ref (ad 0)), (1, .int (nI k)), (2, .int (nI a))]) rfl ?_
      refine v_aload_n (pc := 54) C dX0_step_54 rfl 2 rfl ?_
      refine v_lload (pc := 55) C dX0_step_55 0 rfl ?_
      refine v_calli (pc := 57) C [.long (opn σ k &&& σ.lp a)] 1 (met_x_findState σ (opn σ k &&& σ.lp a) hs1 hs48) (lw_V q168 q170 qs12 q23 q171) (by decide +kernel) (by decide) (ci := 0) (q0 := 0) rfl rfl rfl rfl (Nat.le_of_ble_eq_true rfl) dX0_step_57 (fun r u hu => ?_)
      obtain ⟨rfl, hu⟩ := hu
      rw [hu]
      rcases lu_spec (b := fun k9 => decide (σ.sset k9 = opn σ k &&& σ.lp a)) (σ.sts - 1) 1 with ⟨e9, hno⟩ | ⟨t, t1, t2, e9, t4⟩
      · rw [e9]
        refine v_istore (pc := 60) C dX0_step_60 (by decide) (lv' := [(7, .int (-1)), (5, .long (opn σ k &&& σ.lp a)), (3, .long (opn σ k)), (0, .ref (ad 0)), (1, .int (nI k)), (2, .int (nI a))]) rfl ?_
        refine v_iload (pc := 62) C dX0_step_62 0 rfl ?_
        refine v_if_ge (pc := 64) (tgt := 87) C dX0_step_64 (by decide) (fun h64 => ?_) (fun h64 => ?_)
        · skip
          exact absurd h64 (by decide)
        · skip
          refine v_aload_n (pc := 67) C dX0_step_67 rfl 3 rfl ?_
          refine gxs_sts (pc := 68) (v := σ.sts) C rfl dX0_step_68 ?_
          refine v_bipush (pc := 71) C dX0_step_71 cb_48 ?_
          refine v_icmp_ltN (pc := 73) (tgt := 87) C dX0_step_73 (by decide) (by omega) (by omega) (fun h73 => ?_) (fun h73 => ?_)
          · skip
            have hon : opn (x_make σ (opn σ k &&& σ.lp a)) k = opn σ k := by
              show (if k = 0 then orA σ.rf σ.rul else flw σ.fol (vp_updL σ.sset σ.sts (opn σ k &&& σ.lp a) k) σ.pl) = _
              rw [pk_uLn (by omega)]; rfl
            refine v_iload (pc := 87) C dX0_step_87 0 rfl ?_
            refine v_if_ge (pc := 89) (tgt := 101) C dX0_step_89 (by decide) (fun h89 => ?_) (fun h89 => ?_)
            · skip
              exact absurd h89 (by decide)
            · skip
              refine v_aload_n (pc := 92) C dX0_step_92 rfl 3 rfl ?_
              refine v_lload (pc := 93) C dX0_step_93 1 rfl ?_
              refine v_calli (pc := 95) C [.long (opn σ k &&& σ.lp a)] 1 (met_x_makeState σ (opn σ k &&& σ.lp a) (by omega) hr) (lw_V q172 q174 qs13 q23 q175) (by decide +kernel) (by decide) (ci := 0) (q0 := 0) rfl rfl rfl rfl (Nat.le_of_ble_eq_true rfl) dX0_step_95 (fun r u hu => ?_)
              obtain ⟨rfl, rfl⟩ := hu
              refine v_goto (tgt := 103) (pc := 98) C dX0_step_98 (by decide) ?_
              refine v_istore (pc := 103) C dX0_step_103 (by decide) (lv' := [(7, .int (nI σ.sts)), (5, .long (opn σ k &&& σ.lp a)), (3, .long (opn σ k)), (0, .ref (ad 0)), (1, .int (nI k)), (2, .int (nI a))]) rfl ?_
              refine v_aload_n (pc := 105) C dX0_step_105 rfl 3 rfl ?_
              refine gxs_nxt (pc := 106) C dX0_step_106 ?_
              refine v_iconst (pc := 109) C dX0_step_109 ci_4 ?_
              refine v_iload_n (pc := 110) C dX0_step_110 rfl 4 rfl ?_
              refine v_imulN (pc := 111) C dX0_step_111 ?_
              refine v_iload_n (pc := 112) C dX0_step_112 rfl 5 rfl ?_
              refine v_iaddN (pc := 113) C dX0_step_113 ?_
              refine v_iload (pc := 114) C dX0_step_114 0 rfl ?_
              refine sxs_nxt (pc := 116) (j := (4 * k) + a) (x := nI σ.sts) C (by omega) dX0_step_116 ?_
              refine v_iload (pc := 117) C dX0_step_117 0 rfl ?_
              exact v_iret (pc := 119) C E (xs_nxt (x_make σ (opn σ k &&& σ.lp a)) (upd (x_make σ (opn σ k &&& σ.lp a)).nxt (4 * k + a) (nI σ.sts))) rfl ⟨σ.sts, rfl, hs1, by show σ.sts < σ.sts + 1; omega, pk_uLs, TI_nxt (TI_make hT h73 hgw) (by show k < σ.sts + 1; omega) ha hs1 (by show σ.sts < σ.sts + 1; omega) (by rw [hon]; exact pk_uLs), rfl⟩ dX0_step_119
          · skip
            refine v_aload_n (pc := 76) C dX0_step_76 rfl 3 rfl ?_
            refine v_callv (pc := 77) C [] 0 (met_x_emptyTable σ hr) (lw_V q33 q35 qs0 q23 q36) (by decide +kernel) (by decide) (ci := 0) (q0 := 0) rfl rfl rfl rfl (Nat.le_of_ble_eq_true rfl) dX0_step_77 (fun u hu => ?_)
            subst hu
            refine v_aload_n (pc := 80) C dX0_step_80 rfl 3 rfl ?_
            refine v_lload (pc := 81) C dX0_step_81 1 rfl ?_
            refine v_calli (pc := 83) C [.long (opn σ k &&& σ.lp a)] 1 (met_x_makeState (x_empty σ) (opn σ k &&& σ.lp a) (by show 1 < 48; decide) hr) (lw_V q172 q174 qs13 q23 q175) (by decide +kernel) (by decide) (ci := 0) (q0 := 0) rfl rfl rfl rfl (Nat.le_of_ble_eq_true rfl) dX0_step_83 (fun r u hu => ?_)
            obtain ⟨rfl, rfl⟩ := hu
            exact v_iret (pc := 86) C E (x_make (x_empty σ) (opn σ k &&& σ.lp a)) rfl ⟨1, rfl, by decide, by show 1 < 1 + 1; decide, (show vp_updL (vp_updL σ.sset 0 0) 1 (opn σ k &&& σ.lp a) 1 = opn σ k &&& σ.lp a from pk_uLs), TI_make (TI_empty Gd σ) (by show 1 < 48; decide) hgw, rfl⟩ dX0_step_86
      · rw [e9]
        have t4 : σ.sset t = opn σ k &&& σ.lp a := of_decide_eq_true t4
        have t2 : t < σ.sts := by omega
        refine v_istore (pc := 60) C dX0_step_60 (by decide) (lv' := [(7, .int (nI t)), (5, .long (opn σ k &&& σ.lp a)), (3, .long (opn σ k)), (0, .ref (ad 0)), (1, .int (nI k)), (2, .int (nI a))]) rfl ?_
        refine v_iload (pc := 62) C dX0_step_62 0 rfl ?_
        refine v_if_ge (pc := 64) (tgt := 87) C dX0_step_64 (by decide) (fun h64 => ?_) (fun h64 => ?_)
        · skip
          refine v_iload (pc := 87) C dX0_step_87 0 rfl ?_
          refine v_if_ge (pc := 89) (tgt := 101) C dX0_step_89 (by decide) (fun h89 => ?_) (fun h89 => ?_)
          · skip
            refine v_iload (pc := 101) C dX0_step_101 0 rfl ?_
            refine v_istore (pc := 103) C dX0_step_103 (by decide) (lv' := [(7, .int (nI t)), (5, .long (opn σ k &&& σ.lp a)), (3, .long (opn σ k)), (0, .ref (ad 0)), (1, .int (nI k)), (2, .int (nI a))]) rfl ?_
            refine v_aload_n (pc := 105) C dX0_step_105 rfl 3 rfl ?_
            refine gxs_nxt (pc := 106) C dX0_step_106 ?_
            refine v_iconst (pc := 109) C dX0_step_109 ci_4 ?_
            refine v_iload_n (pc := 110) C dX0_step_110 rfl 4 rfl ?_
            refine v_imulN (pc := 111) C dX0_step_111 ?_
            refine v_iload_n (pc := 112) C dX0_step_112 rfl 5 rfl ?_
            refine v_iaddN (pc := 113) C dX0_step_113 ?_
            refine v_iload (pc := 114) C dX0_step_114 0 rfl ?_
            refine sxs_nxt (pc := 116) (j := (4 * k) + a) (x := nI t) C (by omega) dX0_step_116 ?_
            refine v_iload (pc := 117) C dX0_step_117 0 rfl ?_
            exact v_iret (pc := 119) C E (xs_nxt σ (upd σ.nxt (4 * k + a) (nI t))) rfl ⟨t, rfl, t1, t2, t4, TI_nxt hT hk ha t1 t2 t4, rfl⟩ dX0_step_119
          · skip
            exact absurd (nI_pos' (by omega)) h89
        · skip
          exact absurd (nI_pos' (by omega)) h64
    refine v_if_neN (pc := 25) (tgt := 35) C dX0_step_25 (by decide) (by omega) (fun h25 => ?_) (fun h25 => ?_)
    · skip
      refine v_aload_n (pc := 35) C dX0_step_35 rfl 0 rfl ?_
      refine v_aload_n (pc := 36) C dX0_step_36 rfl 0 rfl ?_
      refine gxs_sset (pc := 37) C dX0_step_37 ?_
      refine v_iload_n (pc := 40) C dX0_step_40 rfl 1 rfl ?_
      refine lxs_sset (pc := 41) (j := k) (v := σ.sset k) C rfl (by omega) dX0_step_41 ?_
      refine v_calll (pc := 42) C [.long (σ.sset k)] 1 (met_x_following σ (σ.sset k) hp) (lw_V q160 q162 qs10 q23 q163) (by decide +kernel) (by decide) (ci := 0) (q0 := 0) rfl rfl rfl rfl (Nat.le_of_ble_eq_true rfl) dX0_step_42 (fun r u hu => ?_)
      obtain ⟨rfl, hu⟩ := hu
      rw [hu]
      exact v_st (congrArg (fun z9 => Value.long z9 :: []) (show flw σ.fol (σ.sset k) σ.pl = opn σ k from (if_neg (by omega)).symm)) J45
    · skip
      refine v_aload_n (pc := 28) C dX0_step_28 rfl 0 rfl ?_
      refine v_calll (pc := 29) C [] 0 (met_x_allFirst σ hr) (lw_V q156 q158 qs9 q23 q159) (by decide +kernel) (by decide) (ci := 0) (q0 := 0) rfl rfl rfl rfl (Nat.le_of_ble_eq_true rfl) dX0_step_29 (fun r u hu => ?_)
      obtain ⟨rfl, hu⟩ := hu
      rw [hu]
      refine v_goto (tgt := 45) (pc := 32) C dX0_step_32 (by decide) ?_
      exact v_st (congrArg (fun z9 => Value.long z9 :: []) (show orA σ.rf σ.rul = opn σ k from (if_pos h25).symm)) J45
  · skip
    obtain ⟨t, q1, q2, q3, q4⟩ := (hT.2.2.2.1 k a hk ha).resolve_left (fun q => h10 (by rw [q]; decide))
    refine v_aload_n (pc := 13) C dX0_step_13 rfl 0 rfl ?_
    refine gxs_nxt (pc := 14) C dX0_step_14 ?_
    refine v_iconst (pc := 17) C dX0_step_17 ci_4 ?_
    refine v_iload_n (pc := 18) C dX0_step_18 rfl 1 rfl ?_
    refine v_imulN (pc := 19) C dX0_step_19 ?_
    refine v_iload_n (pc := 20) C dX0_step_20 rfl 2 rfl ?_
    refine v_iaddN (pc := 21) C dX0_step_21 ?_
    refine lxs_nxt (pc := 22) (j := (4 * k) + a) (v := σ.nxt ((4 * k) + a)) C rfl (by omega) dX0_step_22 ?_
    exact v_iret (pc := 23) C E σ rfl ⟨t, q3, q1, q2, q4, hT, rfl⟩ dX0_step_23
end XS4
end
section
set_option maxRecDepth 100000
section XS4
set_option maxHeartbeats 4000000 in
theorem met_x_sortOf {l : Launch} {D : va_G} {ad : Nat → Nat} {ci cj cz : ClassId} (σ : XS) {Gd : Int64 → Prop} (p q : Int32) (hT : TI Gd σ) (hG : Gcl Gd σ) (hp : σ.pl ≤ 40) (hr : σ.rul ≤ 5) (hl : ∀ j, j < σ.tl → σ.txt j < 4) (ht : σ.tl ≤ 30) : vMi l D (vTy ci cj cz) yX0_sortOf cX0_sortOf 5 (some .int) 2 [.ref (ad 0), .int p, .int q] (xW ad ci cj cz σ) ad 15 (fun r u => TI Gd u ∧ u = xTb σ u ∧ r = sOf (gX σ σ.txt) σ.tl p q) (xW ad ci cj cz) := by
  refine vMi_of (by decide) (Nat.le_of_ble_eq_true rfl) xW_at ?_
  intro X C E
  have C : vC X cX0_sortOf RX0 5 (vTy ci cj cz) (vRm 2) ad 15 := C
  refine v_lv (lv' := [(0, .ref (ad 0)), (1, .int p), (2, .int q)]) rfl ?_
  by_cases hb : p < 0 ∨ q < p ∨ nI σ.tl < q
  · skip
    refine v_iload_n (pc := 0) C dX0_sortOf_0 rfl 1 rfl ?_
    refine v_if_lt (pc := 1) (tgt := 17) C dX0_sortOf_1 (by decide) (fun h1 => ?_) (fun h1 => ?_)
    · skip
      refine v_bipush (pc := 17) C dX0_sortOf_17 cb_m2 ?_
      exact v_iret (pc := 19) C E σ rfl ⟨hT, rfl, (if_pos hb).symm⟩ dX0_sortOf_19
    · skip
      refine v_iload_n (pc := 4) C dX0_sortOf_4 rfl 1 rfl ?_
      refine v_iload_n (pc := 5) C dX0_sortOf_5 rfl 2 rfl ?_
      refine v_icmp_gt (pc := 6) (tgt := 17) C dX0_sortOf_6 (by decide) (fun h6 => ?_) (fun h6 => ?_)
      · skip
        refine v_bipush (pc := 17) C dX0_sortOf_17 cb_m2 ?_
        exact v_iret (pc := 19) C E σ rfl ⟨hT, rfl, (if_pos hb).symm⟩ dX0_sortOf_19
      · skip
        refine v_iload_n (pc := 9) C dX0_sortOf_9 rfl 2 rfl ?_
        refine v_aload_n (pc := 10) C dX0_sortOf_10 rfl 0 rfl ?_
        refine gxs_tl (pc := 11) (v := σ.tl) C rfl dX0_sortOf_11 ?_
        refine v_icmp_le (pc := 14) (tgt := 20) C dX0_sortOf_14 (by decide) (fun h14 => ?_) (fun h14 => ?_)
        · skip
          exact absurd hb (fun z => z.elim h1 (fun z => z.elim h6 (fun z => absurd h14 (by rw [Int32.le_iff_toInt_le]; rw [Int32.lt_iff_toInt_lt] at z; omega))))
        · skip
          refine v_bipush (pc := 17) C dX0_sortOf_17 cb_m2 ?_
          exact v_iret (pc := 19) C E σ rfl ⟨hT, rfl, (if_pos hb).symm⟩ dX0_sortOf_19
  · obtain ⟨i, j, rfl, rfl, hij, hj⟩ := so_good ht hb
    have L : ∀ k, k ≤ j → ∀ (τ : XS) (t : Nat), TI Gd τ → τ = xTb σ τ → stInv τ σ σ.txt i k t → vV X (xW ad ci cj cz τ) 25 [(4, .int (nI k)), (3, .int (nI t)), (0, .ref (ad 0)), (1, .int (nI i)), (2, .int (nI j))] [] := by
      refine lp_up (fun k hk ih => ?_)
      intro τ t hT2 hτ hst
      have e1 : τ.txt = σ.txt := tb_txt hτ
      have e2 : τ.tl = σ.tl := tb_tl hτ
      have e3 : τ.rul = σ.rul := tb_rul hτ
      have e4 : τ.pl = σ.pl := tb_pl hτ
      have ht48 : τ.sts ≤ 48 := hT2.2.1
      have hts := stInv_lt hT2 hst
      refine v_iload (pc := 25) C dX0_sortOf_25 0 rfl ?_
      refine v_iload_n (pc := 27) C dX0_sortOf_27 rfl 4 rfl ?_
      refine v_icmp_geN (pc := 28) (tgt := 50) C dX0_sortOf_28 (by decide) (by omega) (by omega) (fun h28 => ?_) (fun h28 => ?_)
      · skip
        obtain rfl : k = j := by omega
        refine v_aload_n (pc := 50) C dX0_sortOf_50 rfl 2 rfl ?_
        refine gxs_ends (pc := 51) C dX0_sortOf_51 ?_
        refine v_iload_n (pc := 54) C dX0_sortOf_54 rfl 1 rfl ?_
        refine lxs_ends (pc := 55) (j := t) (v := τ.ends t) C rfl (by omega) dX0_sortOf_55 ?_
        exact v_iret (pc := 56) C E τ rfl ⟨hT2, hτ, by rw [sOf, if_neg hb, nI_clamp (by omega), nI_clamp (by omega)]; exact stInv_ends hT2 e3 (tb_re hτ) (tb_rl hτ) hst⟩ dX0_sortOf_56
      · skip
        refine v_aload_n (pc := 31) C dX0_sortOf_31 rfl 2 rfl ?_
        refine v_iload_n (pc := 32) C dX0_sortOf_32 rfl 1 rfl ?_
        refine v_aload_n (pc := 33) C dX0_sortOf_33 rfl 2 rfl ?_
        refine gxs_txt (pc := 34) C dX0_sortOf_34 ?_
        refine v_iload (pc := 37) C dX0_sortOf_37 0 rfl ?_
        refine lxs_txt (pc := 39) (j := k) (v := τ.txt k) C rfl (by omega) dX0_sortOf_39 ?_
        refine v_calli (pc := 40) C [.int (nI t), .int (nI (τ.txt k))] 2 (met_x_step τ t (τ.txt k) hts (by rw [e1]; exact hl k (by omega)) hT2 (Gcl_tb hτ hG) (by omega) (by omega)) (lw_V q152 q154 qs8 q23 q155) (by decide +kernel) (by decide) (ci := 0) (q0 := 0) rfl rfl rfl rfl (Nat.le_of_ble_eq_true rfl) dX0_sortOf_40 (fun r u hu => ?_)
        obtain ⟨t', rfl, h1, h2, h3, hT3, hu⟩ := hu
        refine v_istore_n (pc := 43) C dX0_sortOf_43 rfl (by decide) (lv' := [(3, .int (nI t')), (4, .int (nI k)), (0, .ref (ad 0)), (1, .int (nI i)), (2, .int (nI j))]) rfl ?_
        refine v_iinc (pc := 44) C dX0_sortOf_44 1 rfl (v_inc k) (by decide) (lv' := [(4, .int (nI (k + 1))), (3, .int (nI t')), (0, .ref (ad 0)), (1, .int (nI i)), (2, .int (nI j))]) rfl ?_
        refine v_goto (tgt := 25) (pc := 47) C dX0_sortOf_47 (by decide) ?_
        refine v_sub [0, 1, 2, 3, 4] rfl (ih h28 u t' hT3 (xTb_trans hτ hu) (Or.inr ⟨?_, h1, h2, ?_⟩))
        · rcases hst with ⟨q, _⟩ | ⟨q, _⟩ <;> omega
        · rw [h3, e1]; exact stInv_opn (tb_rf hτ) e3 (tb_fol hτ) e4 (tb_lp hτ) hst
    refine v_iload_n (pc := 0) C dX0_sortOf_0 rfl 1 rfl ?_
    refine v_if_lt (pc := 1) (tgt := 17) C dX0_sortOf_1 (by decide) (fun h1 => ?_) (fun h1 => ?_)
    · skip
      exact absurd h1 (nI_pos (by omega))
    · skip
      refine v_iload_n (pc := 4) C dX0_sortOf_4 rfl 1 rfl ?_
      refine v_iload_n (pc := 5) C dX0_sortOf_5 rfl 2 rfl ?_
      refine v_icmp_gtN (pc := 6) (tgt := 17) C dX0_sortOf_6 (by decide) (by omega) (by omega) (fun h6 => ?_) (fun h6 => ?_)
      · skip
        exact absurd h6 (by omega)
      · skip
        refine v_iload_n (pc := 9) C dX0_sortOf_9 rfl 2 rfl ?_
        refine v_aload_n (pc := 10) C dX0_sortOf_10 rfl 0 rfl ?_
        refine gxs_tl (pc := 11) (v := σ.tl) C rfl dX0_sortOf_11 ?_
        refine v_icmp_leN (pc := 14) (tgt := 20) C dX0_sortOf_14 (by decide) (by omega) (by omega) (fun h14 => ?_) (fun h14 => ?_)
        · skip
          refine v_iconst (pc := 20) C dX0_sortOf_20 ci_0 ?_
          refine v_istore_n (pc := 21) C dX0_sortOf_21 rfl (by decide) (lv' := [(3, .int (nI 0)), (0, .ref (ad 0)), (1, .int (nI i)), (2, .int (nI j))]) rfl ?_
          refine v_iload_n (pc := 22) C dX0_sortOf_22 rfl 2 rfl ?_
          refine v_istore (pc := 23) C dX0_sortOf_23 (by decide) (lv' := [(4, .int (nI i)), (3, .int (nI 0)), (0, .ref (ad 0)), (1, .int (nI i)), (2, .int (nI j))]) rfl ?_
          exact v_sub [0, 1, 2, 3, 4] rfl (L i hij σ 0 hT rfl (Or.inl ⟨rfl, rfl⟩))
        · skip
          exact absurd h14 (by omega)
end XS4
end
section
set_option maxRecDepth 100000
section XS5
theorem upN_upN (f : Nat → Nat) (i x y : Nat) : upN (upN f i x) i y = upN f i y := by
  funext j
  by_cases h : j = i
  · subst h; rw [upN_s, upN_s]
  · rw [upN_n h, upN_n h, upN_n h]
theorem nn0 {x : Int32} : ¬ x < 0 ↔ 0 ≤ x := by
  rw [Int32.le_iff_toInt_le, Int32.lt_iff_toInt_lt]
  omega
/-- where the word that begins at i ends -/
def enX (σ : XS) (i : Nat) : Nat := endF (gX σ σ.txt i) i (σ.tl - i)
def cuV (σ : XS) (i k : Nat) : Int32 := if k = i then -1 else gX σ σ.txt i (endF (gX σ σ.txt i) i (k - i))
def cuM (σ : XS) (i k : Nat) : Nat := endF (gX σ σ.txt i) i (k - i) - i
/-- σ with u's table and its word w set -/
abbrev xCw (σ u : XS) (v : Int32) (m : Nat) : XS := xs_wle (xs_wso (xTb σ u) (upd σ.wso σ.wc v)) (upN σ.wle σ.wc m)
/-- σ with u's table and these words -/
abbrev xWd (σ u : XS) (n : Nat) (so : Nat → Int32) (sl : Nat → Nat) : XS := xs_wle (xs_wso (xs_wc (xTb σ u) n) so) sl
theorem endF_s (g : Nat → Int32) (i n : Nat) : endF g i (n + 1) = if 0 ≤ g (i + n + 1) then i + n + 1 else endF g i n := rfl
theorem cw_neg {σ : XS} {i k : Nat} (hr : σ.rul ≤ 5) (hik : i ≤ k) (h : gX σ σ.txt i (k + 1) < 0) : cuV σ i (k + 1) = cuV σ i k ∧ cuM σ i (k + 1) = cuM σ i k := by
  obtain ⟨n, rfl⟩ : ∃ n, k = i + n := ⟨k - i, by omega⟩
  have h' : ¬ 0 ≤ gX σ σ.txt i (i + n + 1) := fun q => nn0.mpr q h
  have e : endF (gX σ σ.txt i) i (i + n + 1 - i) = endF (gX σ σ.txt i) i n := by
    rw [show i + n + 1 - i = n + 1 by omega, endF_s, if_neg h']
  have e2 : i + n - i = n := by omega
  unfold cuV cuM
  rw [e, e2]
  refine ⟨?_, rfl⟩
  rw [if_neg (by omega)]
  by_cases z : n = 0
  · subst z
    rw [if_pos (by omega)]
    exact gX_neg h' hr
  · rw [if_neg (by omega)]
theorem cw_pos {σ : XS} {i k : Nat} (hik : i ≤ k) (h : ¬ gX σ σ.txt i (k + 1) < 0) : cuV σ i (k + 1) = gX σ σ.txt i (k + 1) ∧ cuM σ i (k + 1) = k + 1 - i := by
  obtain ⟨n, rfl⟩ : ∃ n, k = i + n := ⟨k - i, by omega⟩
  have e : endF (gX σ σ.txt i) i (i + n + 1 - i) = i + n + 1 := by
    rw [show i + n + 1 - i = n + 1 by omega, endF_s, if_pos (nn0.mp h)]
  unfold cuV cuM
  rw [e, if_neg (by omega)]
  exact ⟨rfl, rfl⟩
theorem cw_end {σ : XS} {i : Nat} (hi : i < σ.tl) : cuV σ i σ.tl = gX σ σ.txt i (enX σ i) ∧ cuM σ i σ.tl = enX σ i - i := by
  unfold cuV cuM enX
  rw [if_neg (by omega)]
  exact ⟨rfl, rfl⟩
theorem cw_dead {σ : XS} {i k : Nat} (hik : i < k) (hk : k ≤ σ.tl) (h : rsO σ (orA σ.rf σ.rul) σ.txt i (k - i - 1) = 0) : cuV σ i k = gX σ σ.txt i (enX σ i) ∧ cuM σ i k = enX σ i - i := by
  have e : enX σ i = endF (gX σ σ.txt i) i (k - i) := by
    unfold enX
    rw [show σ.tl - i = (k - i) + (σ.tl - k) by omega]
    refine endF_skip (fun j hj => ?_) _
    rw [gX_dead hik h j (by omega)]
    decide
  unfold cuV cuM
  rw [e, if_neg (by omega)]
  exact ⟨rfl, rfl⟩
set_option maxHeartbeats 4000000 in
theorem met_x_cutWord {l : Launch} {D : va_G} {ad : Nat → Nat} {ci cj cz : ClassId} (σ : XS) {Gd : Int64 → Prop} (i : Nat) (hi : i < σ.tl) (hw : σ.wc < 30) (hT : TI Gd σ) (hG : Gcl Gd σ) (hp : σ.pl ≤ 40) (hr : σ.rul ≤ 5) (hl : ∀ j, j < σ.tl → σ.txt j < 4) (ht : σ.tl ≤ 30) : vMv l D (vTy ci cj cz) yX0_cutWord cX0_cutWord 4 2 [.ref (ad 0), .int (nI i)] (xW ad ci cj cz σ) ad 15 (fun w => TI Gd w ∧ w = xCw σ w (gX σ σ.txt i (enX σ i)) (enX σ i - i)) (xW ad ci cj cz) := by
  refine vMv_of (by decide) (Nat.le_of_ble_eq_true rfl) xW_at ?_
  intro X C E
  have C : vC X cX0_cutWord RX0 4 (vTy ci cj cz) (vRm 2) ad 15 := C
  refine v_lv (lv' := [(0, .ref (ad 0)), (1, .int (nI i))]) rfl ?_
  have L : ∀ k, k ≤ σ.tl → ∀ (u : XS) (t : Nat), TI Gd (xTb σ u) → stInv (xTb σ u) σ σ.txt i k t → i ≤ k → vV X (xW ad ci cj cz (xCw σ u (cuV σ i k) (cuM σ i k))) 24 [(3, .int (nI k)), (2, .int (nI t)), (0, .ref (ad 0)), (1, .int (nI i))] [] := by
    refine lp_up (fun k hk ih => ?_)
    intro u t hT2 hst hik
    have ht48 : u.sts ≤ 48 := hT2.2.1
    have hts : t < (xTb σ u).sts := stInv_lt hT2 hst
    have hts : t < u.sts := hts
    refine v_iload_n (pc := 24) C dX0_cutWord_24 rfl 0 rfl ?_
    refine v_aload_n (pc := 25) C dX0_cutWord_25 rfl 2 rfl ?_
    refine gxs_tl (pc := 26) (v := σ.tl) C rfl dX0_cutWord_26 ?_
    refine v_icmp_geN (pc := 29) (tgt := 103) C dX0_cutWord_29 (by decide) (by omega) (by omega) (fun h29 => ?_) (fun h29 => ?_)
    · skip
      obtain rfl : k = σ.tl := by omega
      have hfin := cw_end hi
      exact v_vret (pc := 103) C E (xCw σ u (cuV σ i σ.tl) (cuM σ i σ.tl)) rfl ⟨hT2, by rw [← hfin.1, ← hfin.2]; rfl⟩ dX0_cutWord_103
    · skip
      refine v_iload_n (pc := 32) C dX0_cutWord_32 rfl 1 rfl ?_
      have J47 : vV X (xW ad ci cj cz (xCw σ u (cuV σ i k) (cuM σ i k))) 47 [(3, .int (nI k)), (2, .int (nI t)), (0, .ref (ad 0)), (1, .int (nI i))] [] := by
        refine v_aload_n (pc := 47) C dX0_cutWord_47 rfl 2 rfl ?_
        refine v_iload_n (pc := 48) C dX0_cutWord_48 rfl 1 rfl ?_
        refine v_aload_n (pc := 49) C dX0_cutWord_49 rfl 2 rfl ?_
        refine gxs_txt (pc := 50) C dX0_cutWord_50 ?_
        refine v_iload_n (pc := 53) C dX0_cutWord_53 rfl 0 rfl ?_
        refine lxs_txt (pc := 54) (j := k) (v := σ.txt k) C rfl (by omega) dX0_cutWord_54 ?_
        refine v_calli (pc := 55) C [.int (nI t), .int (nI (σ.txt k))] 2 (met_x_step (xCw σ u (cuV σ i k) (cuM σ i k)) t (σ.txt k) hts (hl k (by omega)) hT2 hG hp hr) (lw_V q152 q154 qs8 q23 q155) (by decide +kernel) (by decide) (ci := 0) (q0 := 0) rfl rfl rfl rfl (Nat.le_of_ble_eq_true rfl) dX0_cutWord_55 (fun r u9 hu => ?_)
        obtain ⟨t', rfl, k1, k2, k3, hT3, hu⟩ := hu
        have hu' : u9 = (xCw σ u9 (cuV σ i k) (cuM σ i k)) := hu
        have hT4 : TI Gd (xTb σ u9) := by
          have q := hT3
          rw [hu'] at q
          exact q
        have hst2 : stInv (xTb σ u9) σ σ.txt i (k + 1) t' := Or.inr ⟨by omega, k1, k2, k3.trans (stInv_opn (τ := xTb σ u) rfl rfl rfl rfl rfl hst)⟩
        have hge : u9.ends t' = gX σ σ.txt i (k + 1) := stInv_ends (τ := xTb σ u9) hT4 rfl rfl rfl hst2
        have ht9 : t' < 48 := Nat.lt_of_lt_of_le k2 hT3.2.1
        refine v_ws (congrArg (xW ad ci cj cz) hu') ?_
        refine v_istore_n (pc := 58) C dX0_cutWord_58 rfl (by decide) (lv' := [(2, .int (nI t')), (3, .int (nI k)), (0, .ref (ad 0)), (1, .int (nI i))]) rfl ?_
        refine v_aload_n (pc := 59) C dX0_cutWord_59 rfl 2 rfl ?_
        refine gxs_ends (pc := 60) C dX0_cutWord_60 ?_
        refine v_iload_n (pc := 63) C dX0_cutWord_63 rfl 0 rfl ?_
        refine lxs_ends (pc := 64) (j := t') (v := gX σ σ.txt i (k + 1)) C hge (by omega) dX0_cutWord_64 ?_
        refine v_if_lt (pc := 65) (tgt := 97) C dX0_cutWord_65 (by decide) (fun h65 => ?_) (fun h65 => ?_)
        · skip
          refine v_iinc (pc := 97) C dX0_cutWord_97 1 rfl (v_inc k) (by decide) (lv' := [(3, .int (nI (k + 1))), (2, .int (nI t')), (0, .ref (ad 0)), (1, .int (nI i))]) rfl ?_
          refine v_goto (tgt := 24) (pc := 100) C dX0_cutWord_100 (by decide) ?_
          have ih := ih h29 u9 t' hT4 hst2 (by omega)
          rw [(cw_neg hr hik h65).1, (cw_neg hr hik h65).2] at ih
          exact v_sub [0, 1, 2, 3] rfl ih
        · skip
          refine v_aload_n (pc := 68) C dX0_cutWord_68 rfl 2 rfl ?_
          refine gxs_wso (pc := 69) C dX0_cutWord_69 ?_
          refine v_aload_n (pc := 72) C dX0_cutWord_72 rfl 2 rfl ?_
          refine gxs_wc (pc := 73) (v := σ.wc) C rfl dX0_cutWord_73 ?_
          refine v_aload_n (pc := 76) C dX0_cutWord_76 rfl 2 rfl ?_
          refine gxs_ends (pc := 77) C dX0_cutWord_77 ?_
          refine v_iload_n (pc := 80) C dX0_cutWord_80 rfl 0 rfl ?_
          refine lxs_ends (pc := 81) (j := t') (v := gX σ σ.txt i (k + 1)) C hge (by omega) dX0_cutWord_81 ?_
          refine sxs_wso (pc := 82) (j := σ.wc) (x := gX σ σ.txt i (k + 1)) C (by omega) dX0_cutWord_82 ?_
          refine v_aload_n (pc := 83) C dX0_cutWord_83 rfl 2 rfl ?_
          refine gxs_wle (pc := 84) C dX0_cutWord_84 ?_
          refine v_aload_n (pc := 87) C dX0_cutWord_87 rfl 2 rfl ?_
          refine gxs_wc (pc := 88) (v := σ.wc) C rfl dX0_cutWord_88 ?_
          refine v_iload_n (pc := 91) C dX0_cutWord_91 rfl 1 rfl ?_
          refine v_iconst (pc := 92) C dX0_cutWord_92 ci_1 ?_
          refine v_iaddN (pc := 93) C dX0_cutWord_93 ?_
          refine v_iload_n (pc := 94) C dX0_cutWord_94 rfl 3 rfl ?_
          refine v_isubN (pc := 95) C dX0_cutWord_95 (by omega) ?_
          refine sxs_wle (pc := 96) (j := σ.wc) (x := (k + 1) - i) C (by omega) dX0_cutWord_96 ?_
          refine v_iinc (pc := 97) C dX0_cutWord_97 1 rfl (v_inc k) (by decide) (lv' := [(3, .int (nI (k + 1))), (2, .int (nI t')), (0, .ref (ad 0)), (1, .int (nI i))]) rfl ?_
          refine v_goto (tgt := 24) (pc := 100) C dX0_cutWord_100 (by decide) ?_
          have ih := ih h29 u9 t' hT4 hst2 (by omega)
          rw [(cw_pos hik h65).1, (cw_pos hik h65).2] at ih
          refine v_ws (show (xW ad ci cj cz (xs_wle (xs_wso (xCw σ u9 (cuV σ i k) (cuM σ i k)) (upd (upd σ.wso σ.wc (cuV σ i k)) σ.wc (gX σ σ.txt i (k + 1)))) (upN (upN σ.wle σ.wc (cuM σ i k)) σ.wc ((k + 1) - i)))) = xW ad ci cj cz (xCw σ u9 (gX σ σ.txt i (k + 1)) (k + 1 - i)) from ?_) (v_sub [0, 1, 2, 3] rfl ih)
          rw [upd_upd, upN_upN]
      refine v_if_eqN (pc := 33) (tgt := 47) C dX0_cutWord_33 (by decide) (by omega) (fun h33 => ?_) (fun h33 => ?_)
      · skip
        exact J47
      · skip
        refine v_aload_n (pc := 36) C dX0_cutWord_36 rfl 2 rfl ?_
        refine gxs_sset (pc := 37) C dX0_cutWord_37 ?_
        refine v_iload_n (pc := 40) C dX0_cutWord_40 rfl 1 rfl ?_
        refine lxs_sset (pc := 41) (j := t) (v := u.sset t) C rfl (by omega) dX0_cutWord_41 ?_
        refine v_lconst (pc := 42) C dX0_cutWord_42 cl_0 ?_
        refine v_lc_eq (pc := 43) (tgt := 103) C dX0_cutWord_43 dX0_cutWord_44 (by decide) (fun h43 => ?_) (fun h43 => ?_)
        · skip
          have hik2 : i < k := by rcases hst with ⟨_, q⟩ | ⟨q, _⟩ <;> omega
          have hfin := cw_dead hik2 hk (by rcases hst with ⟨_, q⟩ | ⟨_, _, _, q⟩; omega; exact q.symm.trans h43)
          exact v_vret (pc := 103) C E (xCw σ u (cuV σ i k) (cuM σ i k)) rfl ⟨hT2, by rw [← hfin.1, ← hfin.2]; rfl⟩ dX0_cutWord_103
        · skip
          exact J47
  refine v_aload_n (pc := 0) C dX0_cutWord_0 rfl 0 rfl ?_
  refine gxs_wso (pc := 1) C dX0_cutWord_1 ?_
  refine v_aload_n (pc := 4) C dX0_cutWord_4 rfl 0 rfl ?_
  refine gxs_wc (pc := 5) (v := σ.wc) C rfl dX0_cutWord_5 ?_
  refine v_iconst (pc := 8) C dX0_cutWord_8 ci_m1 ?_
  refine sxs_wso (pc := 9) (j := σ.wc) (x := (-1)) C (by omega) dX0_cutWord_9 ?_
  refine v_aload_n (pc := 10) C dX0_cutWord_10 rfl 0 rfl ?_
  refine gxs_wle (pc := 11) C dX0_cutWord_11 ?_
  refine v_aload_n (pc := 14) C dX0_cutWord_14 rfl 0 rfl ?_
  refine gxs_wc (pc := 15) (v := σ.wc) C rfl dX0_cutWord_15 ?_
  refine v_iconst (pc := 18) C dX0_cutWord_18 ci_1 ?_
  refine sxs_wle (pc := 19) (j := σ.wc) (x := 1) C (by omega) dX0_cutWord_19 ?_
  refine v_iconst (pc := 20) C dX0_cutWord_20 ci_0 ?_
  refine v_istore_n (pc := 21) C dX0_cutWord_21 rfl (by decide) (lv' := [(2, .int (nI 0)), (0, .ref (ad 0)), (1, .int (nI i))]) rfl ?_
  refine v_iload_n (pc := 22) C dX0_cutWord_22 rfl 2 rfl ?_
  refine v_istore_n (pc := 23) C dX0_cutWord_23 rfl (by decide) (lv' := [(3, .int (nI i)), (2, .int (nI 0)), (0, .ref (ad 0)), (1, .int (nI i))]) rfl ?_
  have L0 := L i (by omega) σ 0 hT (Or.inl ⟨rfl, rfl⟩) (Nat.le_refl _)
  have ev : cuV σ i i = -1 := if_pos rfl
  have em : cuM σ i i = 1 := by unfold cuM; rw [Nat.sub_self]; show i + 1 - i = 1; omega
  rw [ev, em] at L0
  exact v_sub [0, 1, 2, 3] rfl L0
end XS5
end
section
set_option maxRecDepth 100000
section XS5
theorem rsO_tb {σ τ : XS} (h1 : τ.fol = σ.fol) (h2 : τ.pl = σ.pl) (h3 : τ.lp = σ.lp) (w : Int64) (f : Nat → Nat) (i : Nat) : ∀ n, rsO τ w f i n = rsO σ w f i n := by
  intro n
  induction n with
  | zero => show w &&& τ.lp (f i) = w &&& σ.lp (f i); rw [h3]
  | succ n ih =>
    show flw τ.fol (rsO τ w f i n) τ.pl &&& τ.lp (f (i + n + 1)) = flw σ.fol (rsO σ w f i n) σ.pl &&& σ.lp (f (i + n + 1))
    rw [ih, h1, h2, h3]
theorem gX_tb {σ τ : XS} (h1 : τ.fol = σ.fol) (h2 : τ.pl = σ.pl) (h3 : τ.lp = σ.lp) (h4 : τ.rf = σ.rf) (h5 : τ.rul = σ.rul) (h6 : τ.rl = σ.rl) (h7 : τ.re = σ.re) (f : Nat → Nat) : gX τ f = gX σ f := by
  funext i j
  unfold gX
  rw [h5]
  refine lu_cong _ _ (fun r _ _ => ?_)
  unfold acX
  rw [h4, h5, h6, h7, rsO_tb h1 h2 h3]
theorem enX_wd {σ u : XS} {n : Nat} {so : Nat → Int32} {sl : Nat → Nat} : enX (xWd σ u n so sl) = enX σ := by
  funext i
  show endF (gX (xWd σ u n so sl) σ.txt i) i (σ.tl - i) = _
  rw [gX_tb (τ := xWd σ u n so sl) (σ := σ) rfl rfl rfl rfl rfl rfl rfl]
  rfl
theorem enX_gt (σ : XS) (i : Nat) : i < enX σ i := endF_gt _ _ _
theorem enX_le {σ : XS} {i : Nat} (h : i < σ.tl) : enX σ i ≤ σ.tl := by
  have := endF_le (gX σ σ.txt i) i (σ.tl - i) (by omega)
  show endF (gX σ σ.txt i) i (σ.tl - i) ≤ σ.tl
  omega
set_option maxHeartbeats 4000000 in
theorem met_x_cut {l : Launch} {D : va_G} {ad : Nat → Nat} {ci cj cz : ClassId} (σ : XS) {Gd : Int64 → Prop} (hT : TI Gd σ) (hG : Gcl Gd σ) (hp : σ.pl ≤ 40) (hr : σ.rul ≤ 5) (hl : ∀ j, j < σ.tl → σ.txt j < 4) (ht : σ.tl ≤ 30) : vMv l D (vTy ci cj cz) yX0_cut cX0_cut 3 3 [.ref (ad 0)] (xW ad ci cj cz σ) ad 15 (fun w => TI Gd w ∧ w = xWd σ w w.wc w.wso w.wle ∧ cutR (gX σ σ.txt) (enX σ) σ.tl w.wc w.wso w.wle) (xW ad ci cj cz) := by
  refine vMv_of (by decide) (Nat.le_of_ble_eq_true rfl) xW_at ?_
  intro X C E
  have C : vC X cX0_cut RX0 3 (vTy ci cj cz) (vRm 3) ad 15 := C
  refine v_lv (lv' := [(0, .ref (ad 0))]) rfl ?_
  have L : ∀ n, n ≤ 30 → ∀ (u : XS) (so : Nat → Int32) (sl : Nat → Nat), TI Gd (xTb σ u) → (∀ c, c < n → ats (enX σ) c < σ.tl ∧ so c = gX σ σ.txt (ats (enX σ) c) (enX σ (ats (enX σ) c)) ∧ sl c = enX σ (ats (enX σ) c) - ats (enX σ) c) → ats (enX σ) n ≤ 30 → vV X (xW ad ci cj cz (xWd σ u n so sl)) 9 [(2, .int (nI n)), (1, .int (nI (ats (enX σ) n))), (0, .ref (ad 0))] [] := by
    refine lp_up (fun n hn ih => ?_)
    intro u so sl hT2 hI h30
    have hge := ats_ge (enX_gt σ) n
    refine v_iload_n (pc := 9) C dX0_cut_9 rfl 0 rfl ?_
    refine v_bipush (pc := 10) C dX0_cut_10 cb_30 ?_
    refine v_icmp_geN (pc := 12) (tgt := 56) C dX0_cut_12 (by decide) (by omega) (by omega) (fun h12 => ?_) (fun h12 => ?_)
    · skip
      exact v_vret (pc := 56) C E (xWd σ u n so sl) rfl ⟨hT2, rfl, ⟨hn, by show σ.tl ≤ ats (enX σ) n; omega, hI⟩⟩ dX0_cut_56
    · skip
      refine v_iload_n (pc := 15) C dX0_cut_15 rfl 1 rfl ?_
      refine v_aload_n (pc := 16) C dX0_cut_16 rfl 2 rfl ?_
      refine gxs_tl (pc := 17) (v := σ.tl) C rfl dX0_cut_17 ?_
      refine v_icmp_geN (pc := 20) (tgt := 56) C dX0_cut_20 (by decide) (by omega) (by omega) (fun h20 => ?_) (fun h20 => ?_)
      · skip
        exact v_vret (pc := 56) C E (xWd σ u n so sl) rfl ⟨hT2, rfl, ⟨hn, by show σ.tl ≤ ats (enX σ) n; omega, hI⟩⟩ dX0_cut_56
      · skip
        refine v_aload_n (pc := 23) C dX0_cut_23 rfl 2 rfl ?_
        refine v_iload_n (pc := 24) C dX0_cut_24 rfl 1 rfl ?_
        refine v_callv (pc := 25) C [.int (nI (ats (enX σ) n))] 1 (met_x_cutWord (xWd σ u n so sl) (ats (enX σ) n) h20 (show n < 30 by omega) hT2 hG hp hr hl ht) (lw_V q148 q150 qs7 q23 q151) (by decide +kernel) (by decide) (ci := 0) (q0 := 0) rfl rfl rfl rfl (Nat.le_of_ble_eq_true rfl) dX0_cut_25 (fun u9 hu => ?_)
        obtain ⟨hT3, hu⟩ := hu
        rw [enX_wd, show gX (xWd σ u n so sl) (xWd σ u n so sl).txt = gX σ σ.txt from gX_tb (τ := (xWd σ u n so sl)) (σ := σ) rfl rfl rfl rfl rfl rfl rfl _] at hu
        have hu' : u9 = xWd σ u9 n (upd so n (gX σ σ.txt (ats (enX σ) n) (enX σ (ats (enX σ) n)))) (upN sl n (enX σ (ats (enX σ) n) - ats (enX σ) n)) := hu
        have hT4 : TI Gd (xTb σ u9) := by
          have q := hT3
          rw [hu'] at q
          exact q
        refine v_ws (congrArg (xW ad ci cj cz) hu') ?_
        refine v_iload_n (pc := 28) C dX0_cut_28 rfl 1 rfl ?_
        refine v_aload_n (pc := 29) C dX0_cut_29 rfl 2 rfl ?_
        refine gxs_wle (pc := 30) C dX0_cut_30 ?_
        refine v_aload_n (pc := 33) C dX0_cut_33 rfl 2 rfl ?_
        refine gxs_wc (pc := 34) (v := n) C rfl dX0_cut_34 ?_
        refine lxs_wle (pc := 37) (j := n) (v := enX σ (ats (enX σ) n) - ats (enX σ) n) C upN_s (by omega) dX0_cut_37 ?_
        refine v_iaddE (v := nI (ats (enX σ) (n + 1))) (pc := 38) C dX0_cut_38 (show nI (ats (enX σ) n) + nI (enX σ (ats (enX σ) n) - ats (enX σ) n) = nI (ats (enX σ) (n + 1)) by rw [nI_add]; exact congrArg nI (show ats (enX σ) n + (enX σ (ats (enX σ) n) - ats (enX σ) n) = enX σ (ats (enX σ) n) by have := enX_gt σ (ats (enX σ) n); omega)) ?_
        refine v_istore_n (pc := 39) C dX0_cut_39 rfl (by decide) (lv' := [(1, .int (nI (ats (enX σ) (n + 1)))), (2, .int (nI n)), (0, .ref (ad 0))]) rfl ?_
        refine v_aload_n (pc := 40) C dX0_cut_40 rfl 2 rfl ?_
        refine v_dup (pc := 41) C dX0_cut_41 rfl ?_
        refine gxs_wc (pc := 42) (v := n) C rfl dX0_cut_42 ?_
        refine v_iconst (pc := 45) C dX0_cut_45 ci_1 ?_
        refine v_iaddN (pc := 46) C dX0_cut_46 ?_
        refine pxs_wc (pc := 47) (v := n + 1) C dX0_cut_47 ?_
        refine v_iinc (pc := 50) C dX0_cut_50 1 rfl (v_inc n) (by decide) (lv' := [(2, .int (nI (n + 1))), (1, .int (nI (ats (enX σ) (n + 1)))), (0, .ref (ad 0))]) rfl ?_
        refine v_goto (tgt := 9) (pc := 53) C dX0_cut_53 (by decide) ?_
        have hgt := enX_gt σ (ats (enX σ) n)
        have hle : enX σ (ats (enX σ) n) ≤ σ.tl := enX_le h20
        refine v_sub [0, 1, 2] rfl (ih h12 u9 (upd so n (gX σ σ.txt (ats (enX σ) n) (enX σ (ats (enX σ) n)))) (upN sl n (enX σ (ats (enX σ) n) - ats (enX σ) n)) hT4 (fun c hc => ?_) (Nat.le_trans hle ht))
        by_cases e : c = n
        · subst e; exact ⟨h20, pk_us, upN_s⟩
        · rw [pk_un e, upN_n e]; exact hI c (by omega)
  refine v_aload_n (pc := 0) C dX0_cut_0 rfl 0 rfl ?_
  refine v_iconst (pc := 1) C dX0_cut_1 ci_0 ?_
  refine pxs_wc (pc := 2) (v := 0) C dX0_cut_2 ?_
  refine v_iconst (pc := 5) C dX0_cut_5 ci_0 ?_
  refine v_istore_n (pc := 6) C dX0_cut_6 rfl (by decide) (lv' := [(1, .int (nI 0)), (0, .ref (ad 0))]) rfl ?_
  refine v_iconst (pc := 7) C dX0_cut_7 ci_0 ?_
  refine v_istore_n (pc := 8) C dX0_cut_8 rfl (by decide) (lv' := [(2, .int (nI 0)), (1, .int (nI 0)), (0, .ref (ad 0))]) rfl ?_
  exact L 0 (Nat.zero_le _) σ σ.wso σ.wle hT (fun c hc => absurd hc (by omega)) (Nat.zero_le _)
set_option maxHeartbeats 4000000 in
theorem met_x_words {l : Launch} {D : va_G} {ad : Nat → Nat} {ci cj cz : ClassId} (σ : XS) {Gd : Int64 → Prop} (hT : TI Gd σ) (hG : Gcl Gd σ) (hp : σ.pl ≤ 40) (hr : σ.rul ≤ 5) (hl : ∀ j, j < σ.tl → σ.txt j < 4) (ht : σ.tl ≤ 30) : vMi l D (vTy ci cj cz) yX0_words cX0_words 1 (some .int) 4 [.ref (ad 0)] (xW ad ci cj cz σ) ad 15 (fun r w => (TI Gd w ∧ w = xWd σ w w.wc w.wso w.wle ∧ cutR (gX σ σ.txt) (enX σ) σ.tl w.wc w.wso w.wle) ∧ r = nI w.wc) (xW ad ci cj cz) := by
  refine vMi_of (by decide) (Nat.le_of_ble_eq_true rfl) xW_at ?_
  intro X C E
  have C : vC X cX0_words RX0 1 (vTy ci cj cz) (vRm 4) ad 15 := C
  refine v_lv (lv' := [(0, .ref (ad 0))]) rfl ?_
  refine v_aload_n (pc := 0) C dX0_words_0 rfl 0 rfl ?_
  refine v_callv (pc := 1) C [] 0 (met_x_cut σ hT hG hp hr hl ht) (lw_V q144 q146 qs6 q23 q147) (by decide +kernel) (by decide) (ci := 0) (q0 := 0) rfl rfl rfl rfl (Nat.le_of_ble_eq_true rfl) dX0_words_1 (fun u9 hu => ?_)
  refine v_aload_n (pc := 4) C dX0_words_4 rfl 0 rfl ?_
  refine gxs_wc (pc := 5) (v := u9.wc) C rfl dX0_words_5 ?_
  exact v_iret (pc := 8) C E u9 rfl ⟨hu, rfl⟩ dX0_words_8
set_option maxHeartbeats 4000000 in
theorem met_x_sort {l : Launch} {D : va_G} {ad : Nat → Nat} {ci cj cz : ClassId} (σ : XS) {Gd : Int64 → Prop} (p : Int32) (hT : TI Gd σ) (hG : Gcl Gd σ) (hp : σ.pl ≤ 40) (hr : σ.rul ≤ 5) (hl : ∀ j, j < σ.tl → σ.txt j < 4) (ht : σ.tl ≤ 30) : vMi l D (vTy ci cj cz) yX0_sort cX0_sort 2 (some .int) 4 [.ref (ad 0), .int p] (xW ad ci cj cz σ) ad 15 (fun r w => (TI Gd w ∧ w = xWd σ w w.wc w.wso w.wle ∧ cutR (gX σ σ.txt) (enX σ) σ.tl w.wc w.wso w.wle) ∧ r = if p < 0 ∨ nI w.wc ≤ p then -2 else w.wso p.toNatClampNeg) (xW ad ci cj cz) := by
  refine vMi_of (by decide) (Nat.le_of_ble_eq_true rfl) xW_at ?_
  intro X C E
  have C : vC X cX0_sort RX0 2 (vTy ci cj cz) (vRm 4) ad 15 := C
  refine v_lv (lv' := [(0, .ref (ad 0)), (1, .int p)]) rfl ?_
  refine v_aload_n (pc := 0) C dX0_sort_0 rfl 0 rfl ?_
  refine v_callv (pc := 1) C [] 0 (met_x_cut σ hT hG hp hr hl ht) (lw_V q144 q146 qs6 q23 q147) (by decide +kernel) (by decide) (ci := 0) (q0 := 0) rfl rfl rfl rfl (Nat.le_of_ble_eq_true rfl) dX0_sort_1 (fun u9 hu => ?_)
  refine v_iload_n (pc := 4) C dX0_sort_4 rfl 1 rfl ?_
  refine v_if_lt (pc := 5) (tgt := 16) C dX0_sort_5 (by decide) (fun h5 => ?_) (fun h5 => ?_)
  · skip
    refine v_bipush (pc := 16) C dX0_sort_16 cb_m2 ?_
    refine v_goto (tgt := 27) (pc := 18) C dX0_sort_18 (by decide) ?_
    exact v_iret (pc := 27) C E u9 rfl ⟨hu, (if_pos (by first | exact Or.inl h5 | exact Or.inr hge)).symm⟩ dX0_sort_27
  · skip
    obtain ⟨j, hj, rfl⟩ := nI_of h5
    have h30 : u9.wc ≤ 30 := hu.2.2.1
    refine v_iload_n (pc := 8) C dX0_sort_8 rfl 1 rfl ?_
    refine v_aload_n (pc := 9) C dX0_sort_9 rfl 0 rfl ?_
    refine gxs_wc (pc := 10) (v := u9.wc) C rfl dX0_sort_10 ?_
    refine v_icmp_ltN (pc := 13) (tgt := 21) C dX0_sort_13 (by decide) (by omega) (by omega) (fun h13 => ?_) (fun h13 => ?_)
    · skip
      refine v_aload_n (pc := 21) C dX0_sort_21 rfl 0 rfl ?_
      refine gxs_wso (pc := 22) C dX0_sort_22 ?_
      refine v_iload_n (pc := 25) C dX0_sort_25 rfl 1 rfl ?_
      refine lxs_wso (pc := 26) (j := j) (v := u9.wso j) C rfl (by omega) dX0_sort_26 ?_
      exact v_iret (pc := 27) C E u9 rfl ⟨hu, by rw [if_neg (fun z => z.elim h5 (fun z => absurd ((nI_leI (by omega) (by omega)).mp z) (by omega))), nI_clamp (by omega)]⟩ dX0_sort_27
    · skip
      have hge : nI u9.wc ≤ nI j := nI_le h13 (by omega)
      refine v_bipush (pc := 16) C dX0_sort_16 cb_m2 ?_
      refine v_goto (tgt := 27) (pc := 18) C dX0_sort_18 (by decide) ?_
      exact v_iret (pc := 27) C E u9 rfl ⟨hu, (if_pos (by first | exact Or.inl h5 | exact Or.inr hge)).symm⟩ dX0_sort_27
set_option maxHeartbeats 4000000 in
theorem met_x_length {l : Launch} {D : va_G} {ad : Nat → Nat} {ci cj cz : ClassId} (σ : XS) {Gd : Int64 → Prop} (p : Int32) (hT : TI Gd σ) (hG : Gcl Gd σ) (hp : σ.pl ≤ 40) (hr : σ.rul ≤ 5) (hl : ∀ j, j < σ.tl → σ.txt j < 4) (ht : σ.tl ≤ 30) : vMi l D (vTy ci cj cz) yX0_length cX0_length 2 (some .int) 4 [.ref (ad 0), .int p] (xW ad ci cj cz σ) ad 15 (fun r w => (TI Gd w ∧ w = xWd σ w w.wc w.wso w.wle ∧ cutR (gX σ σ.txt) (enX σ) σ.tl w.wc w.wso w.wle) ∧ r = if p < 0 ∨ nI w.wc ≤ p then 0 else nI (w.wle p.toNatClampNeg)) (xW ad ci cj cz) := by
  refine vMi_of (by decide) (Nat.le_of_ble_eq_true rfl) xW_at ?_
  intro X C E
  have C : vC X cX0_length RX0 2 (vTy ci cj cz) (vRm 4) ad 15 := C
  refine v_lv (lv' := [(0, .ref (ad 0)), (1, .int p)]) rfl ?_
  refine v_aload_n (pc := 0) C dX0_length_0 rfl 0 rfl ?_
  refine v_callv (pc := 1) C [] 0 (met_x_cut σ hT hG hp hr hl ht) (lw_V q144 q146 qs6 q23 q147) (by decide +kernel) (by decide) (ci := 0) (q0 := 0) rfl rfl rfl rfl (Nat.le_of_ble_eq_true rfl) dX0_length_1 (fun u9 hu => ?_)
  refine v_iload_n (pc := 4) C dX0_length_4 rfl 1 rfl ?_
  refine v_if_lt (pc := 5) (tgt := 16) C dX0_length_5 (by decide) (fun h5 => ?_) (fun h5 => ?_)
  · skip
    refine v_iconst (pc := 16) C dX0_length_16 ci_0 ?_
    refine v_goto (tgt := 26) (pc := 17) C dX0_length_17 (by decide) ?_
    exact v_iret (pc := 26) C E u9 rfl ⟨hu, (if_pos (by first | exact Or.inl h5 | exact Or.inr hge)).symm⟩ dX0_length_26
  · skip
    obtain ⟨j, hj, rfl⟩ := nI_of h5
    have h30 : u9.wc ≤ 30 := hu.2.2.1
    refine v_iload_n (pc := 8) C dX0_length_8 rfl 1 rfl ?_
    refine v_aload_n (pc := 9) C dX0_length_9 rfl 0 rfl ?_
    refine gxs_wc (pc := 10) (v := u9.wc) C rfl dX0_length_10 ?_
    refine v_icmp_ltN (pc := 13) (tgt := 20) C dX0_length_13 (by decide) (by omega) (by omega) (fun h13 => ?_) (fun h13 => ?_)
    · skip
      refine v_aload_n (pc := 20) C dX0_length_20 rfl 0 rfl ?_
      refine gxs_wle (pc := 21) C dX0_length_21 ?_
      refine v_iload_n (pc := 24) C dX0_length_24 rfl 1 rfl ?_
      refine lxs_wle (pc := 25) (j := j) (v := u9.wle j) C rfl (by omega) dX0_length_25 ?_
      exact v_iret (pc := 26) C E u9 rfl ⟨hu, by rw [if_neg (fun z => z.elim h5 (fun z => absurd ((nI_leI (by omega) (by omega)).mp z) (by omega))), nI_clamp (by omega)]⟩ dX0_length_26
    · skip
      have hge : nI u9.wc ≤ nI j := nI_le h13 (by omega)
      refine v_iconst (pc := 16) C dX0_length_16 ci_0 ?_
      refine v_goto (tgt := 26) (pc := 17) C dX0_length_17 (by decide) ?_
      exact v_iret (pc := 26) C E u9 rfl ⟨hu, (if_pos (by first | exact Or.inl h5 | exact Or.inr hge)).symm⟩ dX0_length_26
end XS5
end
section
set_option maxRecDepth 100000
section XS6
/-- rule r takes the first n letters of f, its own places alone -/
def acR (σ : XS) (f : Nat → Nat) (n r : Nat) : Bool := if n = 0 then σ.re r else decide (¬ rsO σ (σ.rf r) f 0 (n - 1) &&& σ.rl r = 0)
def bOf (rul : Nat) (b : Nat → Bool) (p : Int32) : Int32 := if p < 0 ∨ nI rul ≤ p then -1 else bI (b p.toNatClampNeg)
def msF (σ : XS) (w : Int64) (f : Nat → Nat) : Nat → Int64
  | 0 => 0
  | n + 1 => rsO σ w f 0 n
def moF (σ : XS) (w : Int64) (f : Nat → Nat) : Nat → Int64
  | 0 => w
  | n + 1 => flw σ.fol (rsO σ w f 0 n) σ.pl
theorem moF_ms (σ : XS) (w : Int64) (f : Nat → Nat) : ∀ k, moF σ w f k &&& σ.lp (f k) = rsO σ w f 0 k := by
  intro k
  cases k with
  | zero => rfl
  | succ k =>
    show flw σ.fol (rsO σ w f 0 k) σ.pl &&& σ.lp (f (k + 1)) = flw σ.fol (rsO σ w f 0 k) σ.pl &&& σ.lp (f (0 + k + 1))
    rw [Nat.zero_add]
theorem moF_pos {σ : XS} {w : Int64} {f : Nat → Nat} {k : Nat} (h : 0 < k) : flw σ.fol (msF σ w f k) σ.pl = moF σ w f k := by
  cases k with
  | zero => omega
  | succ k => rfl
def isF (σ : XS) (w : Int64) (f : Nat → Nat) : Nat → Int64
  | 0 => w
  | n + 1 => rsO σ w f 0 n
theorem moF_is {σ : XS} {w : Int64} {f : Nat → Nat} {k : Nat} (h : 0 < k) : flw σ.fol (isF σ w f k) σ.pl = moF σ w f k := by
  cases k with
  | zero => omega
  | succ k => rfl
theorem msF_pos {σ : XS} {w : Int64} {f : Nat → Nat} {k : Nat} (h : 0 < k) : msF σ w f k = rsO σ w f 0 (k - 1) := by
  cases k with
  | zero => omega
  | succ k => rfl
theorem isF_pos {σ : XS} {w : Int64} {f : Nat → Nat} {k : Nat} (h : 0 < k) : isF σ w f k = rsO σ w f 0 (k - 1) := by
  cases k with
  | zero => omega
  | succ k => rfl
def cntF (b : Nat → Bool) : Nat → Nat
  | 0 => 0
  | n + 1 => cntF b n + (if b n = true then 1 else 0)
theorem cntF_cong {b c : Nat → Bool} : ∀ n, (∀ k, k < n → b k = c k) → cntF b n = cntF c n := by
  intro n
  induction n with
  | zero => intro _; rfl
  | succ n ih =>
    intro h
    show cntF b n + (if b n = true then 1 else 0) = cntF c n + (if c n = true then 1 else 0)
    rw [h n (by omega), ih (fun k hk => h k (by omega))]
theorem cntF_le (b : Nat → Bool) : ∀ n, cntF b n ≤ n := by
  intro n
  induction n with
  | zero => exact Nat.le_refl _
  | succ n ih =>
    show cntF b n + (if b n = true then 1 else 0) ≤ n + 1
    split <;> omega
/-- letter k of the row number w -/
def dig (w k : Nat) : Nat := w / 4 ^ k % 4
def cOf (rul : Nat) (b : Nat → Nat → Nat → Bool) (p q : Int32) : Int32 := if p < 0 ∨ nI rul ≤ p ∨ q < 0 ∨ nI 4 < q then -1 else nI (cntF (fun w => b p.toNatClampNeg q.toNatClampNeg w) (4 ^ q.toNatClampNeg))
theorem sh4 : ∀ n, n ≤ 4 → nI 1 <<< (nI (2 * n) &&& 31) = nI (4 ^ n) := by
  intro n h
  have : n = 0 ∨ n = 1 ∨ n = 2 ∨ n = 3 ∨ n = 4 := by omega
  rcases this with rfl | rfl | rfl | rfl | rfl <;> decide
theorem p4 : ∀ n, n ≤ 4 → 4 ^ n ≤ 256 := by
  intro n h
  have : n = 0 ∨ n = 1 ∨ n = 2 ∨ n = 3 ∨ n = 4 := by omega
  rcases this with rfl | rfl | rfl | rfl | rfl <;> decide
theorem shr4 {w k : Nat} (hw : w < 2 ^ 31) (hk : k < 4) : nI w >>> (nI (2 * k) &&& 31) = nI (w / 4 ^ k) := by
  rw [pk_shrN hw _ (2 * k) (s_l (2 * k) (by omega)), Nat.pow_mul]
theorem and4 {w k : Nat} (hw : w < 2 ^ 31) : nI (w / 4 ^ k) &&& nI 3 = nI (dig w k) := pk_andN (Nat.lt_of_le_of_lt (Nat.div_le_self _ _) (by omega)) 2 (by decide)
theorem dig_lt (w k : Nat) : dig w k < 4 := Nat.mod_lt _ (by decide)
theorem ru_good {p : Int32} {n : Nat} (hn : n ≤ 5) (h : ¬ (p < 0 ∨ nI n ≤ p)) : ∃ j, p = nI j ∧ j < n := by
  have h1 : ¬ p < 0 := fun z => h (Or.inl z)
  obtain ⟨j, hj, rfl⟩ := nI_of h1
  refine ⟨j, rfl, ?_⟩
  rcases Nat.lt_or_ge j n with z | z
  · exact z
  · exact absurd (Or.inr (nI_le z hj)) h
theorem co_good {p q : Int32} {n : Nat} (hn : n ≤ 5) (h : ¬ (p < 0 ∨ nI n ≤ p ∨ q < 0 ∨ nI 4 < q)) : ∃ j m, p = nI j ∧ q = nI m ∧ j < n ∧ m ≤ 4 := by
  obtain ⟨j, rfl, hj⟩ := ru_good hn (fun z => h (z.elim Or.inl (fun z => Or.inr (Or.inl z))))
  have h1 : ¬ q < 0 := fun z => h (Or.inr (Or.inr (Or.inl z)))
  obtain ⟨m, hm, rfl⟩ := nI_of h1
  refine ⟨j, m, rfl, rfl, hj, ?_⟩
  rcases Nat.lt_or_ge 4 m with z | z
  · exact absurd (Or.inr (Or.inr (Or.inr (nI_lt z hm)))) h
  · exact z
theorem le_nlt {x y : Int32} (h : x ≤ y) : ¬ y < x := by
  rw [Int32.lt_iff_toInt_lt]
  rw [Int32.le_iff_toInt_le] at h
  omega
theorem nle_lt {x y : Int32} (h : ¬ x ≤ y) : y < x := by
  rw [Int32.lt_iff_toInt_lt]
  rw [Int32.le_iff_toInt_le] at h
  omega
theorem nlt_le {x y : Int32} (h : ¬ x < y) : y ≤ x := by
  rw [Int32.le_iff_toInt_le]
  rw [Int32.lt_iff_toInt_lt] at h
  omega
set_option maxHeartbeats 4000000 in
theorem met_x_matches {l : Launch} {D : va_G} {ad : Nat → Nat} {ci cj cz : ClassId} (σ : XS) (p : Int32) (hp : σ.pl ≤ 40) (hr : σ.rul ≤ 5) (hl : ∀ j, j < σ.tl → σ.txt j < 4) (ht : σ.tl ≤ 30) : vMi l D (vTy ci cj cz) yX0_matches cX0_matches 5 (some .int) 1 [.ref (ad 0), .int p] (xW ad ci cj cz σ) ad 15 (fun r u => u = σ ∧ r = bOf σ.rul (acR σ σ.txt σ.tl) p) (xW ad ci cj cz) := by
  refine vMi_of (by decide) (Nat.le_of_ble_eq_true rfl) xW_at ?_
  intro X C E
  have C : vC X cX0_matches RX0 5 (vTy ci cj cz) (vRm 1) ad 15 := C
  refine v_lv (lv' := [(0, .ref (ad 0)), (1, .int p)]) rfl ?_
  by_cases hb : p < 0 ∨ nI σ.rul ≤ p
  · skip
    refine v_iload_n (pc := 0) C dX0_matches_0 rfl 1 rfl ?_
    refine v_if_lt (pc := 1) (tgt := 12) C dX0_matches_1 (by decide) (fun h1 => ?_) (fun h1 => ?_)
    · skip
      refine v_iconst (pc := 12) C dX0_matches_12 ci_m1 ?_
      exact v_iret (pc := 13) C E σ rfl ⟨rfl, (if_pos hb).symm⟩ dX0_matches_13
    · skip
      refine v_iload_n (pc := 4) C dX0_matches_4 rfl 1 rfl ?_
      refine v_aload_n (pc := 5) C dX0_matches_5 rfl 0 rfl ?_
      refine gxs_rul (pc := 6) (v := σ.rul) C rfl dX0_matches_6 ?_
      refine v_icmp_lt (pc := 9) (tgt := 14) C dX0_matches_9 (by decide) (fun h9 => ?_) (fun h9 => ?_)
      · skip
        exact absurd hb (fun z => z.elim h1 (fun z => le_nlt z h9))
      · skip
        refine v_iconst (pc := 12) C dX0_matches_12 ci_m1 ?_
        exact v_iret (pc := 13) C E σ rfl ⟨rfl, (if_pos hb).symm⟩ dX0_matches_13
  · obtain ⟨j, rfl, hj⟩ := ru_good hr hb
    have L : ∀ k, k ≤ σ.tl → vV X (xW ad ci cj cz σ) 19 [(4, .int (nI k)), (2, .long (msF σ (σ.rf j) σ.txt k)), (0, .ref (ad 0)), (1, .int (nI j))] [] := by
      refine lp_up (fun k hk ih => ?_)
      refine v_iload (pc := 19) C dX0_matches_19 0 rfl ?_
      refine v_aload_n (pc := 21) C dX0_matches_21 rfl 2 rfl ?_
      refine gxs_tl (pc := 22) (v := σ.tl) C rfl dX0_matches_22 ?_
      refine v_icmp_geN (pc := 25) (tgt := 65) C dX0_matches_25 (by decide) (by omega) (by omega) (fun h25 => ?_) (fun h25 => ?_)
      · skip
        obtain rfl : k = σ.tl := by omega
        refine v_aload_n (pc := 65) C dX0_matches_65 rfl 2 rfl ?_
        refine gxs_tl (pc := 66) (v := σ.tl) C rfl dX0_matches_66 ?_
        have J99 : vV X (xW ad ci cj cz σ) 99 [(4, .int (nI σ.tl)), (2, .long (msF σ (σ.rf j) σ.txt σ.tl)), (0, .ref (ad 0)), (1, .int (nI j))] [.int (bI (acR σ σ.txt σ.tl j))] := by
          refine v_istore (pc := 99) C dX0_matches_99 (by decide) (lv' := [(4, .int (bI (acR σ σ.txt σ.tl j))), (2, .long (msF σ (σ.rf j) σ.txt σ.tl)), (0, .ref (ad 0)), (1, .int (nI j))]) rfl ?_
          refine v_iload (pc := 101) C dX0_matches_101 0 rfl ?_
          refine v_if_eqB (pc := 103) (tgt := 110) C dX0_matches_103 (by decide) (fun h103 => ?_) (fun h103 => ?_)
          · skip
            refine v_iconst (pc := 110) C dX0_matches_110 cz_0 ?_
            exact v_iret (pc := 111) C E σ rfl ⟨rfl, by rw [bOf, if_neg hb, nI_clamp (by omega), h103]⟩ dX0_matches_111
          · skip
            refine v_iconst (pc := 106) C dX0_matches_106 cz_1 ?_
            refine v_goto (tgt := 111) (pc := 107) C dX0_matches_107 (by decide) ?_
            exact v_iret (pc := 111) C E σ rfl ⟨rfl, by rw [bOf, if_neg hb, nI_clamp (by omega), h103]⟩ dX0_matches_111
        refine v_if_neN (pc := 69) (tgt := 81) C dX0_matches_69 (by decide) (by omega) (fun h69 => ?_) (fun h69 => ?_)
        · skip
          have hms : msF σ (σ.rf j) σ.txt σ.tl = rsO σ (σ.rf j) σ.txt 0 (σ.tl - 1) := msF_pos h69
          refine v_lload_n (pc := 81) C dX0_matches_81 rfl 1 rfl ?_
          refine v_aload_n (pc := 82) C dX0_matches_82 rfl 2 rfl ?_
          refine gxs_rl (pc := 83) C dX0_matches_83 ?_
          refine v_iload_n (pc := 86) C dX0_matches_86 rfl 3 rfl ?_
          refine lxs_rl (pc := 87) (j := j) (v := σ.rl j) C rfl (by omega) dX0_matches_87 ?_
          refine v_land (pc := 88) C dX0_matches_88 ?_
          refine v_lconst (pc := 89) C dX0_matches_89 cl_0 ?_
          refine v_lc_eq (pc := 90) (tgt := 98) C dX0_matches_90 dX0_matches_91 (by decide) (fun h90 => ?_) (fun h90 => ?_)
          · skip
            refine v_iconst (pc := 98) C dX0_matches_98 cz_0 ?_
            exact v_st (congrArg (fun z9 => Value.int (bI z9) :: []) (show false = (acR σ σ.txt σ.tl j) from (by rw [acR, if_neg (by omega)]; exact (decide_eq_false (show ¬ ¬ rsO σ (σ.rf j) σ.txt 0 (σ.tl - 1) &&& σ.rl j = 0 from fun z => z (hms ▸ h90))).symm))) J99
          · skip
            refine v_iconst (pc := 94) C dX0_matches_94 cz_1 ?_
            refine v_goto (tgt := 99) (pc := 95) C dX0_matches_95 (by decide) ?_
            exact v_st (congrArg (fun z9 => Value.int (bI z9) :: []) (show true = (acR σ σ.txt σ.tl j) from (by rw [acR, if_neg (by omega)]; exact (decide_eq_true (show ¬ rsO σ (σ.rf j) σ.txt 0 (σ.tl - 1) &&& σ.rl j = 0 from hms ▸ h90)).symm))) J99
        · skip
          refine v_aload_n (pc := 72) C dX0_matches_72 rfl 2 rfl ?_
          refine gxs_re (pc := 73) C dX0_matches_73 ?_
          refine v_iload_n (pc := 76) C dX0_matches_76 rfl 3 rfl ?_
          refine lxs_re (pc := 77) (j := j) (v := σ.re j) C rfl (by omega) dX0_matches_77 ?_
          refine v_goto (tgt := 99) (pc := 78) C dX0_matches_78 (by decide) ?_
          exact v_st (congrArg (fun z9 => Value.int (bI z9) :: []) (show σ.re j = (acR σ σ.txt σ.tl j) from (by rw [acR, if_pos h69]))) J99
      · skip
        refine v_aload_n (pc := 28) C dX0_matches_28 rfl 2 rfl ?_
        refine v_iload (pc := 29) C dX0_matches_29 0 rfl ?_
        have J48 : vV X (xW ad ci cj cz σ) 48 [(4, .int (nI k)), (2, .long (msF σ (σ.rf j) σ.txt k)), (0, .ref (ad 0)), (1, .int (nI j))] [.long (moF σ (σ.rf j) σ.txt k), .ref (ad 0)] := by
          refine v_aload_n (pc := 48) C dX0_matches_48 rfl 2 rfl ?_
          refine gxs_txt (pc := 49) C dX0_matches_49 ?_
          refine v_iload (pc := 52) C dX0_matches_52 0 rfl ?_
          refine lxs_txt (pc := 54) (j := k) (v := σ.txt k) C rfl (by omega) dX0_matches_54 ?_
          refine v_calll (pc := 55) C [.long (moF σ (σ.rf j) σ.txt k), .int (nI (σ.txt k))] 2 (met_x_advance σ (moF σ (σ.rf j) σ.txt k) (σ.txt k) (hl k h25)) (lw_V q164 q166 qs11 q23 q167) (by decide +kernel) (by decide) (ci := 0) (q0 := 0) rfl rfl rfl rfl (Nat.le_of_ble_eq_true rfl) dX0_matches_55 (fun r u hu => ?_)
          obtain ⟨rfl, hu⟩ := hu
          rw [hu, moF_ms]
          refine v_lstore_n (pc := 58) C dX0_matches_58 rfl (by decide) (lv' := [(2, .long (msF σ (σ.rf j) σ.txt (k + 1))), (4, .int (nI k)), (0, .ref (ad 0)), (1, .int (nI j))]) rfl ?_
          refine v_iinc (pc := 59) C dX0_matches_59 1 rfl (v_inc k) (by decide) (lv' := [(4, .int (nI (k + 1))), (2, .long (msF σ (σ.rf j) σ.txt (k + 1))), (0, .ref (ad 0)), (1, .int (nI j))]) rfl ?_
          refine v_goto (tgt := 19) (pc := 62) C dX0_matches_62 (by decide) ?_
          exact v_sub [0, 1, 2, 3] rfl (ih h25)
        refine v_if_neN (pc := 31) (tgt := 43) C dX0_matches_31 (by decide) (by omega) (fun h31 => ?_) (fun h31 => ?_)
        · skip
          refine v_aload_n (pc := 43) C dX0_matches_43 rfl 2 rfl ?_
          refine v_lload_n (pc := 44) C dX0_matches_44 rfl 1 rfl ?_
          refine v_calll (pc := 45) C [.long (msF σ (σ.rf j) σ.txt k)] 1 (met_x_following σ (msF σ (σ.rf j) σ.txt k) hp) (lw_V q160 q162 qs10 q23 q163) (by decide +kernel) (by decide) (ci := 0) (q0 := 0) rfl rfl rfl rfl (Nat.le_of_ble_eq_true rfl) dX0_matches_45 (fun r u hu => ?_)
          obtain ⟨rfl, hu⟩ := hu
          rw [hu]
          exact v_st (congrArg (fun z9 => Value.long z9 :: [.ref (ad 0)]) (show flw σ.fol (msF σ (σ.rf j) σ.txt k) σ.pl = moF σ (σ.rf j) σ.txt k from (moF_pos h31))) J48
        · skip
          refine v_aload_n (pc := 34) C dX0_matches_34 rfl 2 rfl ?_
          refine gxs_rf (pc := 35) C dX0_matches_35 ?_
          refine v_iload_n (pc := 38) C dX0_matches_38 rfl 3 rfl ?_
          refine lxs_rf (pc := 39) (j := j) (v := σ.rf j) C rfl (by omega) dX0_matches_39 ?_
          refine v_goto (tgt := 48) (pc := 40) C dX0_matches_40 (by decide) ?_
          exact v_st (congrArg (fun z9 => Value.long z9 :: [.ref (ad 0)]) (show σ.rf j = moF σ (σ.rf j) σ.txt k from (by rw [h31]; rfl))) J48
    refine v_iload_n (pc := 0) C dX0_matches_0 rfl 1 rfl ?_
    refine v_if_lt (pc := 1) (tgt := 12) C dX0_matches_1 (by decide) (fun h1 => ?_) (fun h1 => ?_)
    · skip
      exact absurd h1 (nI_pos (by omega))
    · skip
      refine v_iload_n (pc := 4) C dX0_matches_4 rfl 1 rfl ?_
      refine v_aload_n (pc := 5) C dX0_matches_5 rfl 0 rfl ?_
      refine gxs_rul (pc := 6) (v := σ.rul) C rfl dX0_matches_6 ?_
      refine v_icmp_ltN (pc := 9) (tgt := 14) C dX0_matches_9 (by decide) (by omega) (by omega) (fun h9 => ?_) (fun h9 => ?_)
      · skip
        refine v_lconst (pc := 14) C dX0_matches_14 cl_0 ?_
        refine v_lstore_n (pc := 15) C dX0_matches_15 rfl (by decide) (lv' := [(2, .long 0), (0, .ref (ad 0)), (1, .int (nI j))]) rfl ?_
        refine v_iconst (pc := 16) C dX0_matches_16 ci_0 ?_
        refine v_istore (pc := 17) C dX0_matches_17 (by decide) (lv' := [(4, .int (nI 0)), (2, .long 0), (0, .ref (ad 0)), (1, .int (nI j))]) rfl ?_
        exact v_sub [0, 1, 2, 3] rfl (L 0 (Nat.zero_le _))
      · skip
        exact absurd h9 (by omega)
set_option maxHeartbeats 4000000 in
theorem met_x_count {l : Launch} {D : va_G} {ad : Nat → Nat} {ci cj cz : ClassId} (σ : XS) (p q : Int32) (hp : σ.pl ≤ 40) (hr : σ.rul ≤ 5) : vMi l D (vTy ci cj cz) yX0_count cX0_count 8 (some .int) 1 [.ref (ad 0), .int p, .int q] (xW ad ci cj cz σ) ad 15 (fun r u => u = σ ∧ r = cOf σ.rul (fun j n w => acR σ (dig w) n j) p q) (xW ad ci cj cz) := by
  refine vMi_of (by decide) (Nat.le_of_ble_eq_true rfl) xW_at ?_
  intro X C E
  have C : vC X cX0_count RX0 8 (vTy ci cj cz) (vRm 1) ad 15 := C
  refine v_lv (lv' := [(0, .ref (ad 0)), (1, .int p), (2, .int q)]) rfl ?_
  by_cases hb : p < 0 ∨ nI σ.rul ≤ p ∨ q < 0 ∨ nI 4 < q
  · skip
    refine v_iload_n (pc := 0) C dX0_count_0 rfl 1 rfl ?_
    refine v_if_lt (pc := 1) (tgt := 21) C dX0_count_1 (by decide) (fun h1 => ?_) (fun h1 => ?_)
    · skip
      refine v_iconst (pc := 21) C dX0_count_21 ci_m1 ?_
      exact v_iret (pc := 22) C E σ rfl ⟨rfl, (if_pos hb).symm⟩ dX0_count_22
    · skip
      refine v_iload_n (pc := 4) C dX0_count_4 rfl 1 rfl ?_
      refine v_aload_n (pc := 5) C dX0_count_5 rfl 0 rfl ?_
      refine gxs_rul (pc := 6) (v := σ.rul) C rfl dX0_count_6 ?_
      refine v_icmp_ge (pc := 9) (tgt := 21) C dX0_count_9 (by decide) (fun h9 => ?_) (fun h9 => ?_)
      · skip
        refine v_iconst (pc := 21) C dX0_count_21 ci_m1 ?_
        exact v_iret (pc := 22) C E σ rfl ⟨rfl, (if_pos hb).symm⟩ dX0_count_22
      · skip
        refine v_iload_n (pc := 12) C dX0_count_12 rfl 2 rfl ?_
        refine v_if_lt (pc := 13) (tgt := 21) C dX0_count_13 (by decide) (fun h13 => ?_) (fun h13 => ?_)
        · skip
          refine v_iconst (pc := 21) C dX0_count_21 ci_m1 ?_
          exact v_iret (pc := 22) C E σ rfl ⟨rfl, (if_pos hb).symm⟩ dX0_count_22
        · skip
          refine v_iload_n (pc := 16) C dX0_count_16 rfl 2 rfl ?_
          refine v_iconst (pc := 17) C dX0_count_17 ci_4 ?_
          refine v_icmp_le (pc := 18) (tgt := 23) C dX0_count_18 (by decide) (fun h18 => ?_) (fun h18 => ?_)
          · skip
            exact absurd hb (fun z => z.elim h1 (fun z => z.elim h9 (fun z => z.elim h13 (fun z => le_nlt h18 z))))
          · skip
            refine v_iconst (pc := 21) C dX0_count_21 ci_m1 ?_
            exact v_iret (pc := 22) C E σ rfl ⟨rfl, (if_pos hb).symm⟩ dX0_count_22
  · obtain ⟨j, n, rfl, rfl, hj, hn⟩ := co_good hr hb
    have h4 := p4 n hn
    have hcl : cOf σ.rul (fun j n w => acR σ (dig w) n j) (nI j) (nI n) = nI (cntF (fun w => acR σ (dig w) n j) (4 ^ n)) := by rw [cOf, if_neg hb, nI_clamp (by omega), nI_clamp (by omega)]
    have L : 0 < n → ∀ v, v ≤ 4 ^ n → vV X (xW ad ci cj cz σ) 47 [(4, .int (nI v)), (3, .int (nI (cntF (fun w => acR σ (dig w) n j) v))), (0, .ref (ad 0)), (1, .int (nI j)), (2, .int (nI n))] [] := by
      intro hn0
      refine lp_up (fun v hv ih => ?_)
      have hcv := cntF_le (fun w => acR σ (dig w) n j) v
      have L2 : v < 4 ^ n → ∀ k, k ≤ n → vV X (xW ad ci cj cz σ) 68 [(7, .int (nI k)), (5, .long (isF σ (σ.rf j) (dig v) k)), (4, .int (nI v)), (3, .int (nI (cntF (fun w => acR σ (dig w) n j) v))), (0, .ref (ad 0)), (1, .int (nI j)), (2, .int (nI n))] [] := by
        intro hv2
        refine lp_up (fun k hk ih2 => ?_)
        refine v_iload (pc := 68) C dX0_count_68 0 rfl ?_
        refine v_iload_n (pc := 70) C dX0_count_70 rfl 6 rfl ?_
        refine v_icmp_geN (pc := 71) (tgt := 111) C dX0_count_71 (by decide) (by omega) (by omega) (fun h71 => ?_) (fun h71 => ?_)
        · skip
          obtain rfl : n = k := by omega
          have his : isF σ (σ.rf j) (dig v) n = rsO σ (σ.rf j) (dig v) 0 (n - 1) := isF_pos hn0
          refine v_iload_n (pc := 111) C dX0_count_111 rfl 3 rfl ?_
          refine v_lload (pc := 112) C dX0_count_112 1 rfl ?_
          refine v_aload_n (pc := 114) C dX0_count_114 rfl 4 rfl ?_
          refine gxs_rl (pc := 115) C dX0_count_115 ?_
          refine v_iload_n (pc := 118) C dX0_count_118 rfl 5 rfl ?_
          refine lxs_rl (pc := 119) (j := j) (v := σ.rl j) C rfl (by omega) dX0_count_119 ?_
          refine v_land (pc := 120) C dX0_count_120 ?_
          refine v_lconst (pc := 121) C dX0_count_121 cl_0 ?_
          refine v_lc_eq (pc := 122) (tgt := 130) C dX0_count_122 dX0_count_123 (by decide) (fun h122 => ?_) (fun h122 => ?_)
          · skip
            refine v_iconst (pc := 130) C dX0_count_130 ci_0 ?_
            refine v_iaddE (v := nI (cntF (fun w => acR σ (dig w) n j) (v + 1))) (pc := 131) C dX0_count_131 (show nI (cntF (fun w => acR σ (dig w) n j) v) + nI 0 = nI (cntF (fun w => acR σ (dig w) n j) (v + 1)) by rw [nI_add]; exact congrArg nI (congrArg (cntF (fun w => acR σ (dig w) n j) v + ·) (if_neg (show ¬ acR σ (dig v) n j = true by rw [acR, if_neg (by omega), decide_eq_true_iff]; exact fun z => z (his ▸ h122))).symm)) ?_
            refine v_istore_n (pc := 132) C dX0_count_132 rfl (by decide) (lv' := [(3, .int (nI (cntF (fun w => acR σ (dig w) n j) (v + 1)))), (7, .int (nI n)), (5, .long (isF σ (σ.rf j) (dig v) n)), (4, .int (nI v)), (0, .ref (ad 0)), (1, .int (nI j)), (2, .int (nI n))]) rfl ?_
            refine v_iinc (pc := 133) C dX0_count_133 3 rfl (v_inc v) (by decide) (lv' := [(4, .int (nI (v + 1))), (3, .int (nI (cntF (fun w => acR σ (dig w) n j) (v + 1)))), (7, .int (nI n)), (5, .long (isF σ (σ.rf j) (dig v) n)), (0, .ref (ad 0)), (1, .int (nI j)), (2, .int (nI n))]) rfl ?_
            refine v_goto (tgt := 47) (pc := 136) C dX0_count_136 (by decide) ?_
            exact v_sub [0, 1, 4, 5, 6] rfl (ih hv2)
          · skip
            refine v_iconst (pc := 126) C dX0_count_126 ci_1 ?_
            refine v_goto (tgt := 131) (pc := 127) C dX0_count_127 (by decide) ?_
            refine v_iaddE (v := nI (cntF (fun w => acR σ (dig w) n j) (v + 1))) (pc := 131) C dX0_count_131 (show nI (cntF (fun w => acR σ (dig w) n j) v) + nI 1 = nI (cntF (fun w => acR σ (dig w) n j) (v + 1)) by rw [nI_add]; exact congrArg nI (congrArg (cntF (fun w => acR σ (dig w) n j) v + ·) (if_pos (show acR σ (dig v) n j = true by rw [acR, if_neg (by omega)]; exact decide_eq_true (fun z => h122 (his ▸ z)))).symm)) ?_
            refine v_istore_n (pc := 132) C dX0_count_132 rfl (by decide) (lv' := [(3, .int (nI (cntF (fun w => acR σ (dig w) n j) (v + 1)))), (7, .int (nI n)), (5, .long (isF σ (σ.rf j) (dig v) n)), (4, .int (nI v)), (0, .ref (ad 0)), (1, .int (nI j)), (2, .int (nI n))]) rfl ?_
            refine v_iinc (pc := 133) C dX0_count_133 3 rfl (v_inc v) (by decide) (lv' := [(4, .int (nI (v + 1))), (3, .int (nI (cntF (fun w => acR σ (dig w) n j) (v + 1)))), (7, .int (nI n)), (5, .long (isF σ (σ.rf j) (dig v) n)), (0, .ref (ad 0)), (1, .int (nI j)), (2, .int (nI n))]) rfl ?_
            refine v_goto (tgt := 47) (pc := 136) C dX0_count_136 (by decide) ?_
            exact v_sub [0, 1, 4, 5, 6] rfl (ih hv2)
        · skip
          refine v_aload_n (pc := 74) C dX0_count_74 rfl 4 rfl ?_
          refine v_iload (pc := 75) C dX0_count_75 0 rfl ?_
          have J91 : vV X (xW ad ci cj cz σ) 91 [(7, .int (nI k)), (5, .long (isF σ (σ.rf j) (dig v) k)), (4, .int (nI v)), (3, .int (nI (cntF (fun w => acR σ (dig w) n j) v))), (0, .ref (ad 0)), (1, .int (nI j)), (2, .int (nI n))] [.long (moF σ (σ.rf j) (dig v) k), .ref (ad 0)] := by
            refine v_iload (pc := 91) C dX0_count_91 2 rfl ?_
            refine v_iconst (pc := 93) C dX0_count_93 ci_2 ?_
            refine v_iload (pc := 94) C dX0_count_94 0 rfl ?_
            refine v_imulN (pc := 96) C dX0_count_96 ?_
            refine v_ishrE (v := nI (v / 4 ^ k)) (pc := 97) C dX0_count_97 (shr4 (by omega) (by omega)) ?_
            refine v_iconst (pc := 98) C dX0_count_98 ci_3 ?_
            refine v_iandE (v := nI (dig v k)) (pc := 99) C dX0_count_99 (and4 (by omega)) ?_
            refine v_calll (pc := 100) C [.long (moF σ (σ.rf j) (dig v) k), .int (nI (dig v k))] 2 (met_x_advance σ (moF σ (σ.rf j) (dig v) k) (dig v k) (dig_lt v k)) (lw_V q164 q166 qs11 q23 q167) (by decide +kernel) (by decide) (ci := 0) (q0 := 0) rfl rfl rfl rfl (Nat.le_of_ble_eq_true rfl) dX0_count_100 (fun r u hu => ?_)
            obtain ⟨rfl, hu⟩ := hu
            rw [hu, moF_ms]
            refine v_lstore (pc := 103) C dX0_count_103 (by decide) (lv' := [(5, .long (isF σ (σ.rf j) (dig v) (k + 1))), (7, .int (nI k)), (4, .int (nI v)), (3, .int (nI (cntF (fun w => acR σ (dig w) n j) v))), (0, .ref (ad 0)), (1, .int (nI j)), (2, .int (nI n))]) rfl ?_
            refine v_iinc (pc := 105) C dX0_count_105 1 rfl (v_inc k) (by decide) (lv' := [(7, .int (nI (k + 1))), (5, .long (isF σ (σ.rf j) (dig v) (k + 1))), (4, .int (nI v)), (3, .int (nI (cntF (fun w => acR σ (dig w) n j) v))), (0, .ref (ad 0)), (1, .int (nI j)), (2, .int (nI n))]) rfl ?_
            refine v_goto (tgt := 68) (pc := 108) C dX0_count_108 (by decide) ?_
            exact v_sub [0, 1, 2, 3, 4, 5, 6] rfl (ih2 h71)
          refine v_if_neN (pc := 77) (tgt := 85) C dX0_count_77 (by decide) (by omega) (fun h77 => ?_) (fun h77 => ?_)
          · skip
            refine v_aload_n (pc := 85) C dX0_count_85 rfl 4 rfl ?_
            refine v_lload (pc := 86) C dX0_count_86 1 rfl ?_
            refine v_calll (pc := 88) C [.long (isF σ (σ.rf j) (dig v) k)] 1 (met_x_following σ (isF σ (σ.rf j) (dig v) k) hp) (lw_V q160 q162 qs10 q23 q163) (by decide +kernel) (by decide) (ci := 0) (q0 := 0) rfl rfl rfl rfl (Nat.le_of_ble_eq_true rfl) dX0_count_88 (fun r u hu => ?_)
            obtain ⟨rfl, hu⟩ := hu
            rw [hu]
            exact v_st (congrArg (fun z9 => Value.long z9 :: [.ref (ad 0)]) (show flw σ.fol (isF σ (σ.rf j) (dig v) k) σ.pl = moF σ (σ.rf j) (dig v) k from (moF_is h77))) J91
          · skip
            refine v_lload (pc := 80) C dX0_count_80 1 rfl ?_
            refine v_goto (tgt := 91) (pc := 82) C dX0_count_82 (by decide) ?_
            exact v_st (congrArg (fun z9 => Value.long z9 :: [.ref (ad 0)]) (show isF σ (σ.rf j) (dig v) k = moF σ (σ.rf j) (dig v) k from (by rw [h77]; rfl))) J91
      refine v_iload (pc := 47) C dX0_count_47 0 rfl ?_
      refine v_iconst (pc := 49) C dX0_count_49 ci_1 ?_
      refine v_iconst (pc := 50) C dX0_count_50 ci_2 ?_
      refine v_iload_n (pc := 51) C dX0_count_51 rfl 4 rfl ?_
      refine v_imulN (pc := 52) C dX0_count_52 ?_
      refine v_ishlE (v := nI (4 ^ n)) (pc := 53) C dX0_count_53 (sh4 n hn) ?_
      refine v_icmp_geN (pc := 54) (tgt := 139) C dX0_count_54 (by decide) (by omega) (by omega) (fun h54 => ?_) (fun h54 => ?_)
      · skip
        obtain rfl : v = 4 ^ n := by omega
        refine v_iload_n (pc := 139) C dX0_count_139 rfl 1 rfl ?_
        exact v_iret (pc := 140) C E σ rfl ⟨rfl, hcl.symm⟩ dX0_count_140
      · skip
        refine v_aload_n (pc := 57) C dX0_count_57 rfl 2 rfl ?_
        refine gxs_rf (pc := 58) C dX0_count_58 ?_
        refine v_iload_n (pc := 61) C dX0_count_61 rfl 3 rfl ?_
        refine lxs_rf (pc := 62) (j := j) (v := σ.rf j) C rfl (by omega) dX0_count_62 ?_
        refine v_lstore (pc := 63) C dX0_count_63 (by decide) (lv' := [(5, .long (σ.rf j)), (4, .int (nI v)), (3, .int (nI (cntF (fun w => acR σ (dig w) n j) v))), (0, .ref (ad 0)), (1, .int (nI j)), (2, .int (nI n))]) rfl ?_
        refine v_iconst (pc := 65) C dX0_count_65 ci_0 ?_
        refine v_istore (pc := 66) C dX0_count_66 (by decide) (lv' := [(7, .int (nI 0)), (5, .long (σ.rf j)), (4, .int (nI v)), (3, .int (nI (cntF (fun w => acR σ (dig w) n j) v))), (0, .ref (ad 0)), (1, .int (nI j)), (2, .int (nI n))]) rfl ?_
        exact L2 h54 0 (Nat.zero_le _)
    refine v_iload_n (pc := 0) C dX0_count_0 rfl 1 rfl ?_
    refine v_if_lt (pc := 1) (tgt := 21) C dX0_count_1 (by decide) (fun h1 => ?_) (fun h1 => ?_)
    · skip
      exact absurd h1 (nI_pos (by omega))
    · skip
      refine v_iload_n (pc := 4) C dX0_count_4 rfl 1 rfl ?_
      refine v_aload_n (pc := 5) C dX0_count_5 rfl 0 rfl ?_
      refine gxs_rul (pc := 6) (v := σ.rul) C rfl dX0_count_6 ?_
      refine v_icmp_geN (pc := 9) (tgt := 21) C dX0_count_9 (by decide) (by omega) (by omega) (fun h9 => ?_) (fun h9 => ?_)
      · skip
        exact absurd h9 (by omega)
      · skip
        refine v_iload_n (pc := 12) C dX0_count_12 rfl 2 rfl ?_
        refine v_if_lt (pc := 13) (tgt := 21) C dX0_count_13 (by decide) (fun h13 => ?_) (fun h13 => ?_)
        · skip
          exact absurd h13 (nI_pos (by omega))
        · skip
          refine v_iload_n (pc := 16) C dX0_count_16 rfl 2 rfl ?_
          refine v_iconst (pc := 17) C dX0_count_17 ci_4 ?_
          refine v_icmp_leN (pc := 18) (tgt := 23) C dX0_count_18 (by decide) (by omega) (by omega) (fun h18 => ?_) (fun h18 => ?_)
          · skip
            refine v_iload_n (pc := 23) C dX0_count_23 rfl 2 rfl ?_
            refine v_if_neN (pc := 24) (tgt := 42) C dX0_count_24 (by decide) (by omega) (fun h24 => ?_) (fun h24 => ?_)
            · skip
              refine v_iconst (pc := 42) C dX0_count_42 ci_0 ?_
              refine v_istore_n (pc := 43) C dX0_count_43 rfl (by decide) (lv' := [(3, .int (nI 0)), (0, .ref (ad 0)), (1, .int (nI j)), (2, .int (nI n))]) rfl ?_
              refine v_iconst (pc := 44) C dX0_count_44 ci_0 ?_
              refine v_istore (pc := 45) C dX0_count_45 (by decide) (lv' := [(4, .int (nI 0)), (3, .int (nI 0)), (0, .ref (ad 0)), (1, .int (nI j)), (2, .int (nI n))]) rfl ?_
              exact v_sub [0, 1, 2, 3, 4] rfl (L h24 0 (Nat.zero_le _))
            · skip
              refine v_aload_n (pc := 27) C dX0_count_27 rfl 0 rfl ?_
              refine gxs_re (pc := 28) C dX0_count_28 ?_
              refine v_iload_n (pc := 31) C dX0_count_31 rfl 1 rfl ?_
              refine lxs_re (pc := 32) (j := j) (v := σ.re j) C rfl (by omega) dX0_count_32 ?_
              refine v_if_eqB (pc := 33) (tgt := 40) C dX0_count_33 (by decide) (fun h33 => ?_) (fun h33 => ?_)
              · skip
                refine v_iconst (pc := 40) C dX0_count_40 ci_0 ?_
                exact v_iret (pc := 41) C E σ rfl ⟨rfl, by rw [hcl, h24]; show _ = nI (0 + (if σ.re j = true then 1 else 0)); rw [h33]; rfl⟩ dX0_count_41
              · skip
                refine v_iconst (pc := 36) C dX0_count_36 ci_1 ?_
                refine v_goto (tgt := 41) (pc := 37) C dX0_count_37 (by decide) ?_
                exact v_iret (pc := 41) C E σ rfl ⟨rfl, by rw [hcl, h24]; show _ = nI (0 + (if σ.re j = true then 1 else 0)); rw [h33]; rfl⟩ dX0_count_41
          · skip
            exact absurd h18 (by omega)
end XS6
end
section
set_option maxRecDepth 100000
section MS1
set_option maxHeartbeats 4000000 in
theorem met_m_takes {l : Launch} {D : va_G} {ad : Nat → Nat} {ci cj cz : ClassId} (τ : MS) (k : Nat) (hk : k ≤ 7) : vMi l D (vTy ci cj cz) yX1_takes cX1_takes 1 (some .int) 0 [.int (nI k)] (mW ad ci cj cz τ) ad 10 (fun r u => r = nI (takesN k) ∧ u = τ) (mW ad ci cj cz) := by
  refine vMi_of (by decide) (Nat.le_of_ble_eq_true rfl) mW_at ?_
  intro X C E
  have C : vC X cX1_takes RX1 1 (vTy ci cj cz) (vRm 0) ad 10 := C
  refine v_lv (lv' := [(0, .int (nI k))]) rfl ?_
  refine v_iload_n (pc := 0) C dX1_takes_0 rfl 0 rfl ?_
  refine v_iconst (pc := 1) C dX1_takes_1 ci_2 ?_
  refine v_icmp_gtN (pc := 2) (tgt := 9) C dX1_takes_2 (by decide) (by omega) (by omega) (fun h2 => ?_) (fun h2 => ?_)
  · skip
    refine v_iload_n (pc := 9) C dX1_takes_9 rfl 0 rfl ?_
    refine v_iconst (pc := 10) C dX1_takes_10 ci_4 ?_
    refine v_icmp_gtN (pc := 11) (tgt := 18) C dX1_takes_11 (by decide) (by omega) (by omega) (fun h11 => ?_) (fun h11 => ?_)
    · skip
      refine v_iconst (pc := 18) C dX1_takes_18 ci_1 ?_
      exact v_iret (pc := 19) C E τ rfl ⟨(by rw [takesN, if_neg (by omega), if_neg (by omega)]), rfl⟩ dX1_takes_19
    · skip
      refine v_iconst (pc := 14) C dX1_takes_14 ci_2 ?_
      refine v_goto (tgt := 19) (pc := 15) C dX1_takes_15 (by decide) ?_
      exact v_iret (pc := 19) C E τ rfl ⟨(by rw [takesN, if_neg (by omega), if_pos (by omega)]), rfl⟩ dX1_takes_19
  · skip
    refine v_iconst (pc := 5) C dX1_takes_5 ci_0 ?_
    refine v_goto (tgt := 19) (pc := 6) C dX1_takes_6 (by decide) ?_
    exact v_iret (pc := 19) C E τ rfl ⟨(by rw [takesN, if_pos (by omega)]), rfl⟩ dX1_takes_19
set_option maxHeartbeats 4000000 in
theorem met_m_clear {l : Launch} {D : va_G} {ad : Nat → Nat} {ci cj cz : ClassId} (τ : MS)  : vMv l D (vTy ci cj cz) yX1_clear cX1_clear 1 0 [.ref (ad 0)] (mW ad ci cj cz τ) ad 10 (fun u => u = ms_rul (ms_hei (ms_tok τ 0) 0) 0) (mW ad ci cj cz) := by
  refine vMv_of (by decide) (Nat.le_of_ble_eq_true rfl) mW_at ?_
  intro X C E
  have C : vC X cX1_clear RX1 1 (vTy ci cj cz) (vRm 0) ad 10 := C
  refine v_lv (lv' := [(0, .ref (ad 0))]) rfl ?_
  refine v_aload_n (pc := 0) C dX1_clear_0 rfl 0 rfl ?_
  refine v_iconst (pc := 1) C dX1_clear_1 ci_0 ?_
  refine pms_tok (pc := 2) (v := 0) C dX1_clear_2 ?_
  refine v_aload_n (pc := 5) C dX1_clear_5 rfl 0 rfl ?_
  refine v_iconst (pc := 6) C dX1_clear_6 ci_0 ?_
  refine pms_hei (pc := 7) (v := 0) C dX1_clear_7 ?_
  refine v_aload_n (pc := 10) C dX1_clear_10 rfl 0 rfl ?_
  refine v_iconst (pc := 11) C dX1_clear_11 ci_0 ?_
  refine pms_rul (pc := 12) (v := 0) C dX1_clear_12 ?_
  exact v_vret (pc := 15) C E (ms_rul (ms_hei (ms_tok τ 0) 0) 0) rfl rfl dX1_clear_15
set_option maxHeartbeats 4000000 in
theorem met_m_erase {l : Launch} {D : va_G} {ad : Nat → Nat} {ci cj cz : ClassId} (τ : MS)  : vMv l D (vTy ci cj cz) yX1_erase cX1_erase 1 0 [.ref (ad 0)] (mW ad ci cj cz τ) ad 10 (fun u => u = ms_len τ 0) (mW ad ci cj cz) := by
  refine vMv_of (by decide) (Nat.le_of_ble_eq_true rfl) mW_at ?_
  intro X C E
  have C : vC X cX1_erase RX1 1 (vTy ci cj cz) (vRm 0) ad 10 := C
  refine v_lv (lv' := [(0, .ref (ad 0))]) rfl ?_
  refine v_aload_n (pc := 0) C dX1_erase_0 rfl 0 rfl ?_
  refine v_iconst (pc := 1) C dX1_erase_1 ci_0 ?_
  refine pms_len (pc := 2) (v := 0) C dX1_erase_2 ?_
  exact v_vret (pc := 5) C E (ms_len τ 0) rfl rfl dX1_erase_5
set_option maxHeartbeats 4000000 in
theorem met_m_type {l : Launch} {D : va_G} {ad : Nat → Nat} {ci cj cz : ClassId} (τ : MS) (x : Int32) (ht : τ.len ≤ 30) : vMi l D (vTy ci cj cz) yX1_type cX1_type 2 (some .int) 0 [.ref (ad 0), .int x] (mW ad ci cj cz τ) ad 10 (fun r u => (30 ≤ τ.len ∧ r = -1 ∧ u = τ) ∨ (τ.len < 30 ∧ r = nI (τ.len + 1) ∧ u = ms_len (ms_txt τ (upN τ.txt τ.len (a3 x))) (τ.len + 1))) (mW ad ci cj cz) := by
  refine vMi_of (by decide) (Nat.le_of_ble_eq_true rfl) mW_at ?_
  intro X C E
  have C : vC X cX1_type RX1 2 (vTy ci cj cz) (vRm 0) ad 10 := C
  refine v_lv (lv' := [(0, .ref (ad 0)), (1, .int x)]) rfl ?_
  refine v_aload_n (pc := 0) C dX1_type_0 rfl 0 rfl ?_
  refine gms_len (pc := 1) (v := τ.len) C rfl dX1_type_1 ?_
  refine v_bipush (pc := 4) C dX1_type_4 cb_30 ?_
  refine v_icmp_neN (pc := 6) (tgt := 11) C dX1_type_6 (by decide) (by omega) (by omega) (fun h6 => ?_) (fun h6 => ?_)
  · skip
    refine v_aload_n (pc := 11) C dX1_type_11 rfl 0 rfl ?_
    refine gms_txt (pc := 12) C dX1_type_12 ?_
    refine v_aload_n (pc := 15) C dX1_type_15 rfl 0 rfl ?_
    refine gms_len (pc := 16) (v := τ.len) C rfl dX1_type_16 ?_
    refine v_iload_n (pc := 19) C dX1_type_19 rfl 1 rfl ?_
    refine v_iconst (pc := 20) C dX1_type_20 ci_3 ?_
    refine v_iandE (v := nI (a3 x)) (pc := 21) C dX1_type_21 (a3_and x) ?_
    refine sms_txt (pc := 22) (j := τ.len) (x := a3 x) C (by omega) dX1_type_22 ?_
    refine v_aload_n (pc := 23) C dX1_type_23 rfl 0 rfl ?_
    refine v_dup (pc := 24) C dX1_type_24 rfl ?_
    refine gms_len (pc := 25) (v := τ.len) C rfl dX1_type_25 ?_
    refine v_iconst (pc := 28) C dX1_type_28 ci_1 ?_
    refine v_iaddN (pc := 29) C dX1_type_29 ?_
    refine pms_len (pc := 30) (v := τ.len + 1) C dX1_type_30 ?_
    refine v_aload_n (pc := 33) C dX1_type_33 rfl 0 rfl ?_
    refine gms_len (pc := 34) (v := τ.len + 1) C rfl dX1_type_34 ?_
    exact v_iret (pc := 37) C E (ms_len (ms_txt τ (upN τ.txt τ.len (a3 x))) (τ.len + 1)) rfl (Or.inr ⟨by omega, rfl, rfl⟩) dX1_type_37
  · skip
    refine v_iconst (pc := 9) C dX1_type_9 ci_m1 ?_
    exact v_iret (pc := 10) C E τ rfl (Or.inl ⟨by omega, rfl, rfl⟩) dX1_type_10
/-- the place of token t's piece i .. j -/
abbrev ix (t i j : Nat) : Nat := 961 * t + 31 * i + j
/-- one of m places from i on -/
def anB (b : Nat → Bool) : Nat → Nat → Bool
  | 0, _ => false
  | m + 1, i => b i || anB b m (i + 1)
theorem anB_spec {b : Nat → Bool} : ∀ m i, anB b m i = true ↔ ∃ k, i ≤ k ∧ k < i + m ∧ b k = true := by
  intro m
  induction m with
  | zero => intro i; exact ⟨fun h => Bool.noConfusion (show false = true from h), fun ⟨k, h1, h2, _⟩ => absurd h2 (by omega)⟩
  | succ m ih =>
    intro i
    show (b i || anB b m (i + 1)) = true ↔ _
    rw [Bool.or_eq_true, ih]
    constructor
    · rintro (h | ⟨k, h1, h2, h3⟩)
      · exact ⟨i, Nat.le_refl _, by omega, h⟩
      · exact ⟨k, by omega, by omega, h3⟩
    · rintro ⟨k, h1, h2, h3⟩
      by_cases e : k = i
      · subst e; exact Or.inl h3
      · exact Or.inr ⟨k, by omega, by omega, h3⟩
def bthF (τ : MS) (a b i j l : Nat) : Bool := anB (fun k => τ.fit (ix a i k) && τ.fit (ix b k j)) (j + 1 - (i + l)) (i + l)
set_option maxHeartbeats 4000000 in
theorem met_m_is {l : Launch} {D : va_G} {ad : Nat → Nat} {ci cj cz : ClassId} (τ : MS) (t i j : Nat) (h1 : t < 40) (h2 : i ≤ 30) (h3 : j ≤ 30) : vMi l D (vTy ci cj cz) yX1_is cX1_is 4 (some .boolean) 0 [.ref (ad 0), .int (nI t), .int (nI i), .int (nI j)] (mW ad ci cj cz τ) ad 10 (fun r u => r = bI (τ.fit (ix t i j)) ∧ u = τ) (mW ad ci cj cz) := by
  refine vMi_of (by decide) (Nat.le_of_ble_eq_true rfl) mW_at ?_
  intro X C E
  have C : vC X cX1_is RX1 4 (vTy ci cj cz) (vRm 0) ad 10 := C
  refine v_lv (lv' := [(0, .ref (ad 0)), (1, .int (nI t)), (2, .int (nI i)), (3, .int (nI j))]) rfl ?_
  refine v_aload_n (pc := 0) C dX1_is_0 rfl 0 rfl ?_
  refine gms_fit (pc := 1) C dX1_is_1 ?_
  refine v_sipush (pc := 4) C dX1_is_4 cs_961 ?_
  refine v_iload_n (pc := 7) C dX1_is_7 rfl 1 rfl ?_
  refine v_imulN (pc := 8) C dX1_is_8 ?_
  refine v_bipush (pc := 9) C dX1_is_9 cb_31 ?_
  refine v_iload_n (pc := 11) C dX1_is_11 rfl 2 rfl ?_
  refine v_imulN (pc := 12) C dX1_is_12 ?_
  refine v_iaddN (pc := 13) C dX1_is_13 ?_
  refine v_iload_n (pc := 14) C dX1_is_14 rfl 3 rfl ?_
  refine v_iaddN (pc := 15) C dX1_is_15 ?_
  refine lms_fit (pc := 16) (j := ((961 * t) + (31 * i)) + j) (v := τ.fit (((961 * t) + (31 * i)) + j)) C rfl (by omega) dX1_is_16 ?_
  exact v_zret (pc := 17) C E τ rfl ⟨rfl, rfl⟩ dX1_is_17
set_option maxHeartbeats 4000000 in
theorem met_m_both {l : Launch} {D : va_G} {ad : Nat → Nat} {ci cj cz : ClassId} (τ : MS) (a b i j l9 : Nat) (h1 : a < 40) (h2 : b < 40) (h3 : i ≤ j) (h4 : j ≤ 30) (h5 : l9 ≤ 1) : vMi l D (vTy ci cj cz) yX1_both cX1_both 7 (some .boolean) 1 [.ref (ad 0), .int (nI a), .int (nI b), .int (nI i), .int (nI j), .int (nI l9)] (mW ad ci cj cz τ) ad 10 (fun r u => r = bI (bthF τ a b i j l9) ∧ u = τ) (mW ad ci cj cz) := by
  refine vMi_of (by decide) (Nat.le_of_ble_eq_true rfl) mW_at ?_
  intro X C E
  have C : vC X cX1_both RX1 7 (vTy ci cj cz) (vRm 1) ad 10 := C
  refine v_lv (lv' := [(0, .ref (ad 0)), (1, .int (nI a)), (2, .int (nI b)), (3, .int (nI i)), (4, .int (nI j)), (5, .int (nI l9))]) rfl ?_
  have L : ∀ k, k ≤ j + 1 → i + l9 ≤ k → anB (fun k => τ.fit (ix a i k) && τ.fit (ix b k j)) (j + 1 - k) k = bthF τ a b i j l9 → vV X (mW ad ci cj cz τ) 6 [(6, .int (nI k)), (0, .ref (ad 0)), (1, .int (nI a)), (2, .int (nI b)), (3, .int (nI i)), (4, .int (nI j)), (5, .int (nI l9))] [] := by
    refine lp_up (fun k hk ih => ?_)
    intro hik hv
    refine v_iload (pc := 6) C dX1_both_6 0 rfl ?_
    refine v_iload (pc := 8) C dX1_both_8 5 rfl ?_
    refine v_icmp_gtN (pc := 10) (tgt := 44) C dX1_both_10 (by decide) (by omega) (by omega) (fun h10 => ?_) (fun h10 => ?_)
    · skip
      refine v_iconst (pc := 44) C dX1_both_44 cz_0 ?_
      rw [show j + 1 - k = 0 by omega] at hv
      exact v_zret (pc := 45) C E τ rfl ⟨congrArg bI hv, rfl⟩ dX1_both_45
    · skip
      obtain ⟨m, hm⟩ : ∃ m, j + 1 - k = m + 1 := ⟨j - k, by omega⟩
      rw [hm] at hv
      have hv : (τ.fit (ix a i k) && τ.fit (ix b k j) || anB (fun k => τ.fit (ix a i k) && τ.fit (ix b k j)) m (k + 1)) = bthF τ a b i j l9 := hv
      refine v_aload_n (pc := 13) C dX1_both_13 rfl 1 rfl ?_
      refine v_iload_n (pc := 14) C dX1_both_14 rfl 2 rfl ?_
      refine v_iload_n (pc := 15) C dX1_both_15 rfl 4 rfl ?_
      refine v_iload (pc := 16) C dX1_both_16 0 rfl ?_
      refine v_calli (pc := 18) C [.int (nI a), .int (nI i), .int (nI k)] 3 (met_m_is τ a i k (by omega) (by omega) (by omega)) (lw_V q285 q287 qs18 q24 q288) (by decide +kernel) (by decide) (ci := 1) (q0 := 0) rfl rfl rfl rfl (Nat.le_of_ble_eq_true rfl) dX1_both_18 (fun r u hu => ?_)
      obtain ⟨rfl, hu⟩ := hu
      rw [hu]
      refine v_if_eqB (pc := 21) (tgt := 38) C dX1_both_21 (by decide) (fun h21 => ?_) (fun h21 => ?_)
      · skip
        refine v_iinc (pc := 38) C dX1_both_38 0 rfl (v_inc k) (by decide) (lv' := [(6, .int (nI (k + 1))), (0, .ref (ad 0)), (1, .int (nI a)), (2, .int (nI b)), (3, .int (nI i)), (4, .int (nI j)), (5, .int (nI l9))]) rfl ?_
        refine v_goto (tgt := 6) (pc := 41) C dX1_both_41 (by decide) ?_
        refine ih (by omega) (by omega) ?_
        rw [show j + 1 - (k + 1) = m by omega, ← hv]
        rw [h21, Bool.false_and, Bool.false_or]
      · skip
        refine v_aload_n (pc := 24) C dX1_both_24 rfl 1 rfl ?_
        refine v_iload_n (pc := 25) C dX1_both_25 rfl 3 rfl ?_
        refine v_iload (pc := 26) C dX1_both_26 0 rfl ?_
        refine v_iload (pc := 28) C dX1_both_28 5 rfl ?_
        refine v_calli (pc := 30) C [.int (nI b), .int (nI k), .int (nI j)] 3 (met_m_is τ b k j (by omega) (by omega) (by omega)) (lw_V q285 q287 qs18 q24 q288) (by decide +kernel) (by decide) (ci := 1) (q0 := 0) rfl rfl rfl rfl (Nat.le_of_ble_eq_true rfl) dX1_both_30 (fun r u hu => ?_)
        obtain ⟨rfl, hu⟩ := hu
        rw [hu]
        refine v_if_eqB (pc := 33) (tgt := 38) C dX1_both_33 (by decide) (fun h33 => ?_) (fun h33 => ?_)
        · skip
          refine v_iinc (pc := 38) C dX1_both_38 0 rfl (v_inc k) (by decide) (lv' := [(6, .int (nI (k + 1))), (0, .ref (ad 0)), (1, .int (nI a)), (2, .int (nI b)), (3, .int (nI i)), (4, .int (nI j)), (5, .int (nI l9))]) rfl ?_
          refine v_goto (tgt := 6) (pc := 41) C dX1_both_41 (by decide) ?_
          refine ih (by omega) (by omega) ?_
          rw [show j + 1 - (k + 1) = m by omega, ← hv]
          rw [h33, Bool.and_false, Bool.false_or]
        · skip
          refine v_iconst (pc := 36) C dX1_both_36 cz_1 ?_
          rw [h21, h33] at hv
          exact v_zret (pc := 37) C E τ rfl ⟨congrArg bI hv, rfl⟩ dX1_both_37
  refine v_iload_n (pc := 0) C dX1_both_0 rfl 3 rfl ?_
  refine v_iload (pc := 1) C dX1_both_1 5 rfl ?_
  refine v_iaddN (pc := 3) C dX1_both_3 ?_
  refine v_istore (pc := 4) C dX1_both_4 (by decide) (lv' := [(6, .int (nI (i + l9))), (0, .ref (ad 0)), (1, .int (nI a)), (2, .int (nI b)), (3, .int (nI i)), (4, .int (nI j)), (5, .int (nI l9))]) rfl ?_
  exact L (i + l9) (by omega) (Nat.le_refl _) rfl
/-- the least rule that takes the piece i .. j, by the table of pieces -/
def gM (τ : MS) (i j : Nat) : Int32 := lu (fun r => τ.fit (ix (τ.rof r) i j)) τ.rul 0
set_option maxHeartbeats 4000000 in
theorem met_m_least {l : Launch} {D : va_G} {ad : Nat → Nat} {ci cj cz : ClassId} (τ : MS) (i j : Nat) (h1 : τ.rul ≤ 5) (h2 : i ≤ 30) (h3 : j ≤ 30) (h4 : ∀ r, r < τ.rul → τ.rof r < 40) : vMi l D (vTy ci cj cz) yX1_least cX1_least 4 (some .int) 1 [.ref (ad 0), .int (nI i), .int (nI j)] (mW ad ci cj cz τ) ad 10 (fun r u => r = gM τ i j ∧ u = τ) (mW ad ci cj cz) := by
  refine vMi_of (by decide) (Nat.le_of_ble_eq_true rfl) mW_at ?_
  intro X C E
  have C : vC X cX1_least RX1 4 (vTy ci cj cz) (vRm 1) ad 10 := C
  refine v_lv (lv' := [(0, .ref (ad 0)), (1, .int (nI i)), (2, .int (nI j))]) rfl ?_
  have L : ∀ r, r ≤ τ.rul → lu (fun r => τ.fit (ix (τ.rof r) i j)) (τ.rul - r) r = gM τ i j → vV X (mW ad ci cj cz τ) 2 [(3, .int (nI r)), (0, .ref (ad 0)), (1, .int (nI i)), (2, .int (nI j))] [] := by
    refine lp_up (fun r hr ih => ?_)
    intro hv
    refine v_iload_n (pc := 2) C dX1_least_2 rfl 0 rfl ?_
    refine v_aload_n (pc := 3) C dX1_least_3 rfl 1 rfl ?_
    refine gms_rul (pc := 4) (v := τ.rul) C rfl dX1_least_4 ?_
    refine v_icmp_geN (pc := 7) (tgt := 33) C dX1_least_7 (by decide) (by omega) (by omega) (fun h7 => ?_) (fun h7 => ?_)
    · skip
      rw [show τ.rul - r = 0 by omega] at hv
      refine v_iconst (pc := 33) C dX1_least_33 ci_m1 ?_
      exact v_iret (pc := 34) C E τ rfl ⟨hv, rfl⟩ dX1_least_34
    · skip
      obtain ⟨m, hm⟩ : ∃ m, τ.rul - r = m + 1 := ⟨τ.rul - r - 1, by omega⟩
      rw [hm, lu] at hv
      have hro := h4 r h7
      refine v_aload_n (pc := 10) C dX1_least_10 rfl 1 rfl ?_
      refine v_aload_n (pc := 11) C dX1_least_11 rfl 1 rfl ?_
      refine gms_rof (pc := 12) C dX1_least_12 ?_
      refine v_iload_n (pc := 15) C dX1_least_15 rfl 0 rfl ?_
      refine lms_rof (pc := 16) (j := r) (v := τ.rof r) C rfl (by omega) dX1_least_16 ?_
      refine v_iload_n (pc := 17) C dX1_least_17 rfl 2 rfl ?_
      refine v_iload_n (pc := 18) C dX1_least_18 rfl 3 rfl ?_
      refine v_calli (pc := 19) C [.int (nI (τ.rof r)), .int (nI i), .int (nI j)] 3 (met_m_is τ (τ.rof r) i j (by omega) (by omega) (by omega)) (lw_V q285 q287 qs18 q24 q288) (by decide +kernel) (by decide) (ci := 1) (q0 := 0) rfl rfl rfl rfl (Nat.le_of_ble_eq_true rfl) dX1_least_19 (fun r u hu => ?_)
      obtain ⟨rfl, hu⟩ := hu
      rw [hu]
      refine v_if_eqB (pc := 22) (tgt := 27) C dX1_least_22 (by decide) (fun h22 => ?_) (fun h22 => ?_)
      · skip
        rw [if_neg (by rw [h22]; decide)] at hv
        refine v_iinc (pc := 27) C dX1_least_27 0 rfl (v_inc r) (by decide) (lv' := [(3, .int (nI (r + 1))), (0, .ref (ad 0)), (1, .int (nI i)), (2, .int (nI j))]) rfl ?_
        refine v_goto (tgt := 2) (pc := 30) C dX1_least_30 (by decide) ?_
        exact ih h7 (by rw [show τ.rul - (r + 1) = m by omega]; exact hv)
      · skip
        rw [if_pos h22] at hv
        refine v_iload_n (pc := 25) C dX1_least_25 rfl 0 rfl ?_
        exact v_iret (pc := 26) C E τ rfl ⟨hv, rfl⟩ dX1_least_26
  refine v_iconst (pc := 0) C dX1_least_0 ci_0 ?_
  refine v_istore_n (pc := 1) C dX1_least_1 rfl (by decide) (lv' := [(3, .int (nI 0)), (0, .ref (ad 0)), (1, .int (nI i)), (2, .int (nI j))]) rfl ?_
  exact L 0 (Nat.zero_le _) rfl
def enM (τ : MS) (i : Nat) : Nat := endF (gM τ i) i (τ.len - i)
set_option maxHeartbeats 4000000 in
theorem met_m_end {l : Launch} {D : va_G} {ad : Nat → Nat} {ci cj cz : ClassId} (τ : MS) (i : Nat) (hi : i < τ.len) (h1 : τ.rul ≤ 5) (h4 : ∀ r, r < τ.rul → τ.rof r < 40) (h5 : τ.len ≤ 30) : vMi l D (vTy ci cj cz) yX1_end cX1_end 3 (some .int) 2 [.ref (ad 0), .int (nI i)] (mW ad ci cj cz τ) ad 10 (fun r u => r = nI (enM τ i) ∧ u = τ) (mW ad ci cj cz) := by
  refine vMi_of (by decide) (Nat.le_of_ble_eq_true rfl) mW_at ?_
  intro X C E
  have C : vC X cX1_end RX1 3 (vTy ci cj cz) (vRm 2) ad 10 := C
  refine v_lv (lv' := [(0, .ref (ad 0)), (1, .int (nI i))]) rfl ?_
  have L : ∀ n, i + n ≤ τ.len → endF (gM τ i) i n = enM τ i → vV X (mW ad ci cj cz τ) 5 [(2, .int (nI (i + n))), (0, .ref (ad 0)), (1, .int (nI i))] [] := by
    refine lp_dn (fun n ih => ?_)
    intro hn hv
    refine v_iload_n (pc := 5) C dX1_end_5 rfl 0 rfl ?_
    refine v_iload_n (pc := 6) C dX1_end_6 rfl 2 rfl ?_
    refine v_icmp_leN (pc := 7) (tgt := 27) C dX1_end_7 (by decide) (by omega) (by omega) (fun h7 => ?_) (fun h7 => ?_)
    · skip
      obtain rfl : n = 0 := by omega
      refine v_iload_n (pc := 27) C dX1_end_27 rfl 2 rfl ?_
      refine v_iconst (pc := 28) C dX1_end_28 ci_1 ?_
      refine v_iaddN (pc := 29) C dX1_end_29 ?_
      exact v_iret (pc := 30) C E τ rfl ⟨congrArg nI hv, rfl⟩ dX1_end_30
    · skip
      obtain ⟨m, rfl⟩ : ∃ m, n = m + 1 := ⟨n - 1, by omega⟩
      rw [endF_s] at hv
      refine v_aload_n (pc := 10) C dX1_end_10 rfl 1 rfl ?_
      refine v_iload_n (pc := 11) C dX1_end_11 rfl 2 rfl ?_
      refine v_iload_n (pc := 12) C dX1_end_12 rfl 0 rfl ?_
      refine v_calli (pc := 13) C [.int (nI i), .int (nI (i + m + 1))] 2 (met_m_least τ i (i + m + 1) h1 (by omega) (by omega) h4) (lw_V q293 q295 qs20 q24 q296) (by decide +kernel) (by decide) (ci := 1) (q0 := 0) rfl rfl rfl rfl (Nat.le_of_ble_eq_true rfl) dX1_end_13 (fun r u hu => ?_)
      obtain ⟨rfl, hu⟩ := hu
      rw [hu]
      refine v_if_lt (pc := 16) (tgt := 21) C dX1_end_16 (by decide) (fun h16 => ?_) (fun h16 => ?_)
      · skip
        rw [if_neg (fun z => nn0.mpr z h16)] at hv
        refine v_iinc (pc := 21) C dX1_end_21 0 rfl (show nI (i + m + 1) + Int32.ofInt (-1) = nI (i + m) from pk_m1 (i + m)) (by decide) (lv' := [(2, .int (nI (i + m))), (0, .ref (ad 0)), (1, .int (nI i))]) rfl ?_
        refine v_goto (tgt := 5) (pc := 24) C dX1_end_24 (by decide) ?_
        exact ih m rfl (by omega) hv
      · skip
        rw [if_pos (nn0.mp h16)] at hv
        refine v_iload_n (pc := 19) C dX1_end_19 rfl 0 rfl ?_
        exact v_iret (pc := 20) C E τ rfl ⟨congrArg nI hv, rfl⟩ dX1_end_20
  refine v_aload_n (pc := 0) C dX1_end_0 rfl 0 rfl ?_
  refine gms_len (pc := 1) (v := τ.len) C rfl dX1_end_1 ?_
  refine v_istore_n (pc := 4) C dX1_end_4 rfl (by decide) (lv' := [(2, .int (nI τ.len)), (0, .ref (ad 0)), (1, .int (nI i))]) rfl ?_
  have L0 := L (τ.len - i) (by omega) rfl
  rw [show i + (τ.len - i) = τ.len by omega] at L0
  exact L0
end MS1
end
section
set_option maxRecDepth 100000
section MS1
abbrev m_base (τ : MS) (k a : Nat) : MS := ms_arg (ms_cod τ (upN τ.cod τ.tok k)) (upN τ.arg τ.tok a)
abbrev m_t0 (τ : MS) (k a : Nat) : MS := ms_tok (ms_hei (ms_stk (ms_hei (m_base τ k a) τ.hei) (upN τ.stk τ.hei τ.tok)) (τ.hei + 1)) (τ.tok + 1)
abbrev m_t1 (τ : MS) (k a x : Nat) : MS := ms_tok (ms_hei (ms_stk (ms_hei (ms_rig (m_base τ k a) (upN τ.rig τ.tok (τ.stk x))) x) (upN τ.stk x τ.tok)) (x + 1)) (τ.tok + 1)
abbrev m_t2 (τ : MS) (k a x : Nat) : MS := ms_tok (ms_hei (ms_stk (ms_hei (ms_lef (ms_rig (m_base τ k a) (upN τ.rig τ.tok (τ.stk (x + 1)))) (upN τ.lef τ.tok (τ.stk x))) x) (upN τ.stk x τ.tok)) (x + 1)) (τ.tok + 1)
abbrev m_t7 (τ : MS) (a x : Nat) : MS := ms_tok (ms_rul (ms_rof (ms_hei (ms_rig (m_base τ 7 a) (upN τ.rig τ.tok (τ.stk x))) x) (upN τ.rof τ.rul (τ.stk x))) (τ.rul + 1)) (τ.tok + 1)
/-- what the token k does to the model -/
def mkR (τ : MS) (k a : Nat) (u : MS) : Prop :=
  (k ≤ 2 ∧ u = m_t0 τ k a) ∨ ((k = 3 ∨ k = 4) ∧ ∃ x, τ.hei = x + 2 ∧ u = m_t2 τ k a x) ∨ ((k = 5 ∨ k = 6) ∧ ∃ x, τ.hei = x + 1 ∧ u = m_t1 τ k a x) ∨ (k = 7 ∧ ∃ x, τ.hei = x + 1 ∧ u = m_t7 τ a x)
set_option maxHeartbeats 4000000 in
theorem met_m_token {l : Launch} {D : va_G} {ad : Nat → Nat} {ci cj cz : ClassId} (τ : MS) (c a : Int32) (hs : τ.hei ≤ τ.tok) (ht : τ.tok ≤ 40) (hr : τ.rul ≤ 5) : vMi l D (vTy ci cj cz) yX1_token cX1_token 3 (some .int) 1 [.ref (ad 0), .int c, .int a] (mW ad ci cj cz τ) ad 10 (fun r u => (¬ tkOk τ.hei τ.tok τ.rul c ∧ r = -1 ∧ u = τ) ∨ (tkOk τ.hei τ.tok τ.rul c ∧ ∃ k, k ≤ 7 ∧ c = nI k ∧ r = nI u.hei ∧ mkR τ k (a3 a) u)) (mW ad ci cj cz) := by
  refine vMi_of (by decide) (Nat.le_of_ble_eq_true rfl) mW_at ?_
  intro X C E
  have C : vC X cX1_token RX1 3 (vTy ci cj cz) (vRm 1) ad 10 := C
  refine v_lv (lv' := [(0, .ref (ad 0)), (1, .int c), (2, .int a)]) rfl ?_
  rcases tk_cases c with hbad | ⟨k, hk, rfl⟩
  · skip
    refine v_iload_n (pc := 0) C dX1_token_0 rfl 1 rfl ?_
    refine v_if_lt (pc := 1) (tgt := 44) C dX1_token_1 (by decide) (fun h1 => ?_) (fun h1 => ?_)
    · skip
      refine v_iconst (pc := 44) C dX1_token_44 ci_m1 ?_
      exact v_iret (pc := 45) C E τ rfl (Or.inl ⟨tk_bad hbad, rfl, rfl⟩) dX1_token_45
    · skip
      refine v_iload_n (pc := 4) C dX1_token_4 rfl 1 rfl ?_
      refine v_bipush (pc := 5) C dX1_token_5 cb_7 ?_
      refine v_icmp_gt (pc := 7) (tgt := 44) C dX1_token_7 (by decide) (fun h7 => ?_) (fun h7 => ?_)
      · skip
        refine v_iconst (pc := 44) C dX1_token_44 ci_m1 ?_
        exact v_iret (pc := 45) C E τ rfl (Or.inl ⟨tk_bad hbad, rfl, rfl⟩) dX1_token_45
      · skip
        exact absurd hbad (fun q => q.elim h1 h7)
  · have htl : takesN k ≤ 2 := by unfold takesN; split; omega; split <;> omega
    have J46 : takesN k ≤ τ.hei → τ.tok < 40 → (k = 7 → τ.rul < 5) → vV X (mW ad ci cj cz τ) 46 [(0, .ref (ad 0)), (1, .int (nI k)), (2, .int a)] [] := by
      intro ht1 ht2 ht3
      have hok : tkOk τ.hei τ.tok τ.rul (nI k) := ⟨k, hk, rfl, ht1, ht2, ht3⟩
      have hcs : k ≤ 2 ∨ (k = 3 ∨ k = 4) ∨ (k = 5 ∨ k = 6) ∨ k = 7 := by omega
      rcases hcs with hc | hc | hc | hc
      · skip
        have htk : takesN k = 0 := if_pos (by omega)
        rw [htk] at ht1
        refine v_aload_n (pc := 46) C dX1_token_46 rfl 0 rfl ?_
        refine gms_cod (pc := 47) C dX1_token_47 ?_
        refine v_aload_n (pc := 50) C dX1_token_50 rfl 0 rfl ?_
        refine gms_tok (pc := 51) (v := τ.tok) C rfl dX1_token_51 ?_
        refine v_iload_n (pc := 54) C dX1_token_54 rfl 1 rfl ?_
        refine sms_cod (pc := 55) (j := τ.tok) (x := k) C (by omega) dX1_token_55 ?_
        refine v_aload_n (pc := 56) C dX1_token_56 rfl 0 rfl ?_
        refine gms_arg (pc := 57) C dX1_token_57 ?_
        refine v_aload_n (pc := 60) C dX1_token_60 rfl 0 rfl ?_
        refine gms_tok (pc := 61) (v := τ.tok) C rfl dX1_token_61 ?_
        refine v_iload_n (pc := 64) C dX1_token_64 rfl 2 rfl ?_
        refine v_iconst (pc := 65) C dX1_token_65 ci_3 ?_
        refine v_iandE (v := nI (a3 a)) (pc := 66) C dX1_token_66 (a3_and a) ?_
        refine sms_arg (pc := 67) (j := τ.tok) (x := a3 a) C (by omega) dX1_token_67 ?_
        refine v_iload_n (pc := 68) C dX1_token_68 rfl 1 rfl ?_
        refine v_callSi (pc := 69) C [.int (nI k)] 1 (met_m_takes (ms_arg (ms_cod τ (upN τ.cod τ.tok k)) (upN τ.arg τ.tok (a3 a))) k hk) (lw_S q250 q251 q24 q252) (by decide +kernel) (by decide) rfl rfl (Nat.le_of_ble_eq_true rfl) dX1_token_69 (fun r u hu => ?_)
        obtain ⟨rfl, hu⟩ := hu
        rw [hu, htk]
        refine v_if_le (pc := 72) (tgt := 95) C dX1_token_72 (by decide) (fun h72 => ?_) (fun h72 => ?_)
        · skip
          refine v_iload_n (pc := 95) C dX1_token_95 rfl 1 rfl ?_
          refine v_callSi (pc := 96) C [.int (nI k)] 1 (met_m_takes (ms_arg (ms_cod τ (upN τ.cod τ.tok k)) (upN τ.arg τ.tok (a3 a))) k hk) (lw_S q250 q251 q24 q252) (by decide +kernel) (by decide) rfl rfl (Nat.le_of_ble_eq_true rfl) dX1_token_96 (fun r u hu => ?_)
          obtain ⟨rfl, hu⟩ := hu
          rw [hu, htk]
          refine v_iconst (pc := 99) C dX1_token_99 ci_2 ?_
          refine v_icmp_neN (pc := 100) (tgt := 123) C dX1_token_100 (by decide) (by omega) (by omega) (fun h100 => ?_) (fun h100 => ?_)
          · skip
            refine v_aload_n (pc := 123) C dX1_token_123 rfl 0 rfl ?_
            refine v_dup (pc := 124) C dX1_token_124 rfl ?_
            refine gms_hei (pc := 125) (v := τ.hei) C rfl dX1_token_125 ?_
            refine v_iload_n (pc := 128) C dX1_token_128 rfl 1 rfl ?_
            refine v_callSi (pc := 129) C [.int (nI k)] 1 (met_m_takes (ms_arg (ms_cod τ (upN τ.cod τ.tok k)) (upN τ.arg τ.tok (a3 a))) k hk) (lw_S q250 q251 q24 q252) (by decide +kernel) (by decide) rfl rfl (Nat.le_of_ble_eq_true rfl) dX1_token_129 (fun r u hu => ?_)
            obtain ⟨rfl, hu⟩ := hu
            rw [hu, htk]
            refine v_isubE (v := nI τ.hei) (pc := 132) C dX1_token_132 (pk_sub (Nat.zero_le _)) ?_
            refine pms_hei (pc := 133) (v := τ.hei) C dX1_token_133 ?_
            refine v_iload_n (pc := 136) C dX1_token_136 rfl 1 rfl ?_
            refine v_bipush (pc := 137) C dX1_token_137 cb_7 ?_
            refine v_icmp_neN (pc := 139) (tgt := 173) C dX1_token_139 (by decide) (by omega) (by omega) (fun h139 => ?_) (fun h139 => ?_)
            · skip
              refine v_aload_n (pc := 173) C dX1_token_173 rfl 0 rfl ?_
              refine gms_stk (pc := 174) C dX1_token_174 ?_
              refine v_aload_n (pc := 177) C dX1_token_177 rfl 0 rfl ?_
              refine gms_hei (pc := 178) (v := τ.hei) C rfl dX1_token_178 ?_
              refine v_aload_n (pc := 181) C dX1_token_181 rfl 0 rfl ?_
              refine gms_tok (pc := 182) (v := τ.tok) C rfl dX1_token_182 ?_
              refine sms_stk (pc := 185) (j := τ.hei) (x := τ.tok) C (by omega) dX1_token_185 ?_
              refine v_aload_n (pc := 186) C dX1_token_186 rfl 0 rfl ?_
              refine v_dup (pc := 187) C dX1_token_187 rfl ?_
              refine gms_hei (pc := 188) (v := τ.hei) C rfl dX1_token_188 ?_
              refine v_iconst (pc := 191) C dX1_token_191 ci_1 ?_
              refine v_iaddN (pc := 192) C dX1_token_192 ?_
              refine pms_hei (pc := 193) (v := τ.hei + 1) C dX1_token_193 ?_
              refine v_aload_n (pc := 196) C dX1_token_196 rfl 0 rfl ?_
              refine v_dup (pc := 197) C dX1_token_197 rfl ?_
              refine gms_tok (pc := 198) (v := τ.tok) C rfl dX1_token_198 ?_
              refine v_iconst (pc := 201) C dX1_token_201 ci_1 ?_
              refine v_iaddN (pc := 202) C dX1_token_202 ?_
              refine pms_tok (pc := 203) (v := τ.tok + 1) C dX1_token_203 ?_
              refine v_aload_n (pc := 206) C dX1_token_206 rfl 0 rfl ?_
              refine gms_hei (pc := 207) (v := τ.hei + 1) C rfl dX1_token_207 ?_
              exact v_iret (pc := 210) C E (m_t0 τ k (a3 a)) rfl (Or.inr ⟨hok, k, hk, rfl, rfl, Or.inl ⟨hc, rfl⟩⟩) dX1_token_210
            · skip
              exact absurd h139 (by omega)
          · skip
            exact absurd h100 (by decide)
        · skip
          exact absurd (show nI 0 ≤ 0 by decide) h72
      · skip
        have htk : takesN k = 2 := by rcases hc with rfl | rfl <;> rfl
        rw [htk] at ht1
        obtain ⟨x, hx⟩ : ∃ x, τ.hei = x + 2 := ⟨τ.hei - 2, by omega⟩
        refine v_aload_n (pc := 46) C dX1_token_46 rfl 0 rfl ?_
        refine gms_cod (pc := 47) C dX1_token_47 ?_
        refine v_aload_n (pc := 50) C dX1_token_50 rfl 0 rfl ?_
        refine gms_tok (pc := 51) (v := τ.tok) C rfl dX1_token_51 ?_
        refine v_iload_n (pc := 54) C dX1_token_54 rfl 1 rfl ?_
        refine sms_cod (pc := 55) (j := τ.tok) (x := k) C (by omega) dX1_token_55 ?_
        refine v_aload_n (pc := 56) C dX1_token_56 rfl 0 rfl ?_
        refine gms_arg (pc := 57) C dX1_token_57 ?_
        refine v_aload_n (pc := 60) C dX1_token_60 rfl 0 rfl ?_
        refine gms_tok (pc := 61) (v := τ.tok) C rfl dX1_token_61 ?_
        refine v_iload_n (pc := 64) C dX1_token_64 rfl 2 rfl ?_
        refine v_iconst (pc := 65) C dX1_token_65 ci_3 ?_
        refine v_iandE (v := nI (a3 a)) (pc := 66) C dX1_token_66 (a3_and a) ?_
        refine sms_arg (pc := 67) (j := τ.tok) (x := a3 a) C (by omega) dX1_token_67 ?_
        refine v_iload_n (pc := 68) C dX1_token_68 rfl 1 rfl ?_
        refine v_callSi (pc := 69) C [.int (nI k)] 1 (met_m_takes (ms_arg (ms_cod τ (upN τ.cod τ.tok k)) (upN τ.arg τ.tok (a3 a))) k hk) (lw_S q250 q251 q24 q252) (by decide +kernel) (by decide) rfl rfl (Nat.le_of_ble_eq_true rfl) dX1_token_69 (fun r u hu => ?_)
        obtain ⟨rfl, hu⟩ := hu
        rw [hu, htk]
        refine v_if_le (pc := 72) (tgt := 95) C dX1_token_72 (by decide) (fun h72 => ?_) (fun h72 => ?_)
        · skip
          exact absurd h72 (show ¬ nI 2 ≤ 0 by decide)
        · skip
          refine v_aload_n (pc := 75) C dX1_token_75 rfl 0 rfl ?_
          refine gms_rig (pc := 76) C dX1_token_76 ?_
          refine v_aload_n (pc := 79) C dX1_token_79 rfl 0 rfl ?_
          refine gms_tok (pc := 80) (v := τ.tok) C rfl dX1_token_80 ?_
          refine v_aload_n (pc := 83) C dX1_token_83 rfl 0 rfl ?_
          refine gms_stk (pc := 84) C dX1_token_84 ?_
          refine v_aload_n (pc := 87) C dX1_token_87 rfl 0 rfl ?_
          refine gms_hei (pc := 88) (v := τ.hei) C rfl dX1_token_88 ?_
          refine v_iconst (pc := 91) C dX1_token_91 ci_1 ?_
          refine v_isubE (v := nI (x + 1)) (pc := 92) C dX1_token_92 (show nI τ.hei - nI 1 = nI (x + 1) by rw [hx]; exact pk_sub (by omega)) ?_
          refine lms_stk (pc := 93) (j := x + 1) (v := τ.stk (x + 1)) C rfl (by omega) dX1_token_93 ?_
          refine sms_rig (pc := 94) (j := τ.tok) (x := τ.stk (x + 1)) C (by omega) dX1_token_94 ?_
          refine v_iload_n (pc := 95) C dX1_token_95 rfl 1 rfl ?_
          refine v_callSi (pc := 96) C [.int (nI k)] 1 (met_m_takes (ms_rig (ms_arg (ms_cod τ (upN τ.cod τ.tok k)) (upN τ.arg τ.tok (a3 a))) (upN τ.rig τ.tok (τ.stk (x + 1)))) k hk) (lw_S q250 q251 q24 q252) (by decide +kernel) (by decide) rfl rfl (Nat.le_of_ble_eq_true rfl) dX1_token_96 (fun r u hu => ?_)
          obtain ⟨rfl, hu⟩ := hu
          rw [hu, htk]
          refine v_iconst (pc := 99) C dX1_token_99 ci_2 ?_
          refine v_icmp_neN (pc := 100) (tgt := 123) C dX1_token_100 (by decide) (by omega) (by omega) (fun h100 => ?_) (fun h100 => ?_)
          · skip
            exact absurd rfl h100
          · skip
            refine v_aload_n (pc := 103) C dX1_token_103 rfl 0 rfl ?_
            refine gms_lef (pc := 104) C dX1_token_104 ?_
            refine v_aload_n (pc := 107) C dX1_token_107 rfl 0 rfl ?_
            refine gms_tok (pc := 108) (v := τ.tok) C rfl dX1_token_108 ?_
            refine v_aload_n (pc := 111) C dX1_token_111 rfl 0 rfl ?_
            refine gms_stk (pc := 112) C dX1_token_112 ?_
            refine v_aload_n (pc := 115) C dX1_token_115 rfl 0 rfl ?_
            refine gms_hei (pc := 116) (v := τ.hei) C rfl dX1_token_116 ?_
            refine v_iconst (pc := 119) C dX1_token_119 ci_2 ?_
            refine v_isubE (v := nI x) (pc := 120) C dX1_token_120 (show nI τ.hei - nI 2 = nI x by rw [hx]; exact pk_sub (by omega)) ?_
            refine lms_stk (pc := 121) (j := x) (v := τ.stk x) C rfl (by omega) dX1_token_121 ?_
            refine sms_lef (pc := 122) (j := τ.tok) (x := τ.stk x) C (by omega) dX1_token_122 ?_
            refine v_aload_n (pc := 123) C dX1_token_123 rfl 0 rfl ?_
            refine v_dup (pc := 124) C dX1_token_124 rfl ?_
            refine gms_hei (pc := 125) (v := τ.hei) C rfl dX1_token_125 ?_
            refine v_iload_n (pc := 128) C dX1_token_128 rfl 1 rfl ?_
            refine v_callSi (pc := 129) C [.int (nI k)] 1 (met_m_takes (ms_lef (ms_rig (ms_arg (ms_cod τ (upN τ.cod τ.tok k)) (upN τ.arg τ.tok (a3 a))) (upN τ.rig τ.tok (τ.stk (x + 1)))) (upN τ.lef τ.tok (τ.stk x))) k hk) (lw_S q250 q251 q24 q252) (by decide +kernel) (by decide) rfl rfl (Nat.le_of_ble_eq_true rfl) dX1_token_129 (fun r u hu => ?_)
            obtain ⟨rfl, hu⟩ := hu
            rw [hu, htk]
            refine v_isubE (v := nI x) (pc := 132) C dX1_token_132 (show nI τ.hei - nI 2 = nI x by rw [hx]; exact pk_sub (by omega)) ?_
            refine pms_hei (pc := 133) (v := x) C dX1_token_133 ?_
            refine v_iload_n (pc := 136) C dX1_token_136 rfl 1 rfl ?_
            refine v_bipush (pc := 137) C dX1_token_137 cb_7 ?_
            refine v_icmp_neN (pc := 139) (tgt := 173) C dX1_token_139 (by decide) (by omega) (by omega) (fun h139 => ?_) (fun h139 => ?_)
            · skip
              refine v_aload_n (pc := 173) C dX1_token_173 rfl 0 rfl ?_
              refine gms_stk (pc := 174) C dX1_token_174 ?_
              refine v_aload_n (pc := 177) C dX1_token_177 rfl 0 rfl ?_
              refine gms_hei (pc := 178) (v := x) C rfl dX1_token_178 ?_
              refine v_aload_n (pc := 181) C dX1_token_181 rfl 0 rfl ?_
              refine gms_tok (pc := 182) (v := τ.tok) C rfl dX1_token_182 ?_
              refine sms_stk (pc := 185) (j := x) (x := τ.tok) C (by omega) dX1_token_185 ?_
              refine v_aload_n (pc := 186) C dX1_token_186 rfl 0 rfl ?_
              refine v_dup (pc := 187) C dX1_token_187 rfl ?_
              refine gms_hei (pc := 188) (v := x) C rfl dX1_token_188 ?_
              refine v_iconst (pc := 191) C dX1_token_191 ci_1 ?_
              refine v_iaddN (pc := 192) C dX1_token_192 ?_
              refine pms_hei (pc := 193) (v := x + 1) C dX1_token_193 ?_
              refine v_aload_n (pc := 196) C dX1_token_196 rfl 0 rfl ?_
              refine v_dup (pc := 197) C dX1_token_197 rfl ?_
              refine gms_tok (pc := 198) (v := τ.tok) C rfl dX1_token_198 ?_
              refine v_iconst (pc := 201) C dX1_token_201 ci_1 ?_
              refine v_iaddN (pc := 202) C dX1_token_202 ?_
              refine pms_tok (pc := 203) (v := τ.tok + 1) C dX1_token_203 ?_
              refine v_aload_n (pc := 206) C dX1_token_206 rfl 0 rfl ?_
              refine gms_hei (pc := 207) (v := x + 1) C rfl dX1_token_207 ?_
              exact v_iret (pc := 210) C E (m_t2 τ k (a3 a) x) rfl (Or.inr ⟨hok, k, hk, rfl, rfl, Or.inr (Or.inl ⟨hc, x, hx, rfl⟩)⟩) dX1_token_210
            · skip
              exact absurd h139 (by omega)
      · skip
        have htk : takesN k = 1 := by rcases hc with rfl | rfl <;> rfl
        rw [htk] at ht1
        obtain ⟨x, hx⟩ : ∃ x, τ.hei = x + 1 := ⟨τ.hei - 1, by omega⟩
        refine v_aload_n (pc := 46) C dX1_token_46 rfl 0 rfl ?_
        refine gms_cod (pc := 47) C dX1_token_47 ?_
        refine v_aload_n (pc := 50) C dX1_token_50 rfl 0 rfl ?_
        refine gms_tok (pc := 51) (v := τ.tok) C rfl dX1_token_51 ?_
        refine v_iload_n (pc := 54) C dX1_token_54 rfl 1 rfl ?_
        refine sms_cod (pc := 55) (j := τ.tok) (x := k) C (by omega) dX1_token_55 ?_
        refine v_aload_n (pc := 56) C dX1_token_56 rfl 0 rfl ?_
        refine gms_arg (pc := 57) C dX1_token_57 ?_
        refine v_aload_n (pc := 60) C dX1_token_60 rfl 0 rfl ?_
        refine gms_tok (pc := 61) (v := τ.tok) C rfl dX1_token_61 ?_
        refine v_iload_n (pc := 64) C dX1_token_64 rfl 2 rfl ?_
        refine v_iconst (pc := 65) C dX1_token_65 ci_3 ?_
        refine v_iandE (v := nI (a3 a)) (pc := 66) C dX1_token_66 (a3_and a) ?_
        refine sms_arg (pc := 67) (j := τ.tok) (x := a3 a) C (by omega) dX1_token_67 ?_
        refine v_iload_n (pc := 68) C dX1_token_68 rfl 1 rfl ?_
        refine v_callSi (pc := 69) C [.int (nI k)] 1 (met_m_takes (ms_arg (ms_cod τ (upN τ.cod τ.tok k)) (upN τ.arg τ.tok (a3 a))) k hk) (lw_S q250 q251 q24 q252) (by decide +kernel) (by decide) rfl rfl (Nat.le_of_ble_eq_true rfl) dX1_token_69 (fun r u hu => ?_)
        obtain ⟨rfl, hu⟩ := hu
        rw [hu, htk]
        refine v_if_le (pc := 72) (tgt := 95) C dX1_token_72 (by decide) (fun h72 => ?_) (fun h72 => ?_)
        · skip
          exact absurd h72 (show ¬ nI 1 ≤ 0 by decide)
        · skip
          refine v_aload_n (pc := 75) C dX1_token_75 rfl 0 rfl ?_
          refine gms_rig (pc := 76) C dX1_token_76 ?_
          refine v_aload_n (pc := 79) C dX1_token_79 rfl 0 rfl ?_
          refine gms_tok (pc := 80) (v := τ.tok) C rfl dX1_token_80 ?_
          refine v_aload_n (pc := 83) C dX1_token_83 rfl 0 rfl ?_
          refine gms_stk (pc := 84) C dX1_token_84 ?_
          refine v_aload_n (pc := 87) C dX1_token_87 rfl 0 rfl ?_
          refine gms_hei (pc := 88) (v := τ.hei) C rfl dX1_token_88 ?_
          refine v_iconst (pc := 91) C dX1_token_91 ci_1 ?_
          refine v_isubE (v := nI x) (pc := 92) C dX1_token_92 (show nI τ.hei - nI 1 = nI x by rw [hx]; exact pk_sub (by omega)) ?_
          refine lms_stk (pc := 93) (j := x) (v := τ.stk x) C rfl (by omega) dX1_token_93 ?_
          refine sms_rig (pc := 94) (j := τ.tok) (x := τ.stk x) C (by omega) dX1_token_94 ?_
          refine v_iload_n (pc := 95) C dX1_token_95 rfl 1 rfl ?_
          refine v_callSi (pc := 96) C [.int (nI k)] 1 (met_m_takes (ms_rig (ms_arg (ms_cod τ (upN τ.cod τ.tok k)) (upN τ.arg τ.tok (a3 a))) (upN τ.rig τ.tok (τ.stk x))) k hk) (lw_S q250 q251 q24 q252) (by decide +kernel) (by decide) rfl rfl (Nat.le_of_ble_eq_true rfl) dX1_token_96 (fun r u hu => ?_)
          obtain ⟨rfl, hu⟩ := hu
          rw [hu, htk]
          refine v_iconst (pc := 99) C dX1_token_99 ci_2 ?_
          refine v_icmp_neN (pc := 100) (tgt := 123) C dX1_token_100 (by decide) (by omega) (by omega) (fun h100 => ?_) (fun h100 => ?_)
          · skip
            refine v_aload_n (pc := 123) C dX1_token_123 rfl 0 rfl ?_
            refine v_dup (pc := 124) C dX1_token_124 rfl ?_
            refine gms_hei (pc := 125) (v := τ.hei) C rfl dX1_token_125 ?_
            refine v_iload_n (pc := 128) C dX1_token_128 rfl 1 rfl ?_
            refine v_callSi (pc := 129) C [.int (nI k)] 1 (met_m_takes (ms_rig (ms_arg (ms_cod τ (upN τ.cod τ.tok k)) (upN τ.arg τ.tok (a3 a))) (upN τ.rig τ.tok (τ.stk x))) k hk) (lw_S q250 q251 q24 q252) (by decide +kernel) (by decide) rfl rfl (Nat.le_of_ble_eq_true rfl) dX1_token_129 (fun r u hu => ?_)
            obtain ⟨rfl, hu⟩ := hu
            rw [hu, htk]
            refine v_isubE (v := nI x) (pc := 132) C dX1_token_132 (show nI τ.hei - nI 1 = nI x by rw [hx]; exact pk_sub (by omega)) ?_
            refine pms_hei (pc := 133) (v := x) C dX1_token_133 ?_
            refine v_iload_n (pc := 136) C dX1_token_136 rfl 1 rfl ?_
            refine v_bipush (pc := 137) C dX1_token_137 cb_7 ?_
            refine v_icmp_neN (pc := 139) (tgt := 173) C dX1_token_139 (by decide) (by omega) (by omega) (fun h139 => ?_) (fun h139 => ?_)
            · skip
              refine v_aload_n (pc := 173) C dX1_token_173 rfl 0 rfl ?_
              refine gms_stk (pc := 174) C dX1_token_174 ?_
              refine v_aload_n (pc := 177) C dX1_token_177 rfl 0 rfl ?_
              refine gms_hei (pc := 178) (v := x) C rfl dX1_token_178 ?_
              refine v_aload_n (pc := 181) C dX1_token_181 rfl 0 rfl ?_
              refine gms_tok (pc := 182) (v := τ.tok) C rfl dX1_token_182 ?_
              refine sms_stk (pc := 185) (j := x) (x := τ.tok) C (by omega) dX1_token_185 ?_
              refine v_aload_n (pc := 186) C dX1_token_186 rfl 0 rfl ?_
              refine v_dup (pc := 187) C dX1_token_187 rfl ?_
              refine gms_hei (pc := 188) (v := x) C rfl dX1_token_188 ?_
              refine v_iconst (pc := 191) C dX1_token_191 ci_1 ?_
              refine v_iaddN (pc := 192) C dX1_token_192 ?_
              refine pms_hei (pc := 193) (v := x + 1) C dX1_token_193 ?_
              refine v_aload_n (pc := 196) C dX1_token_196 rfl 0 rfl ?_
              refine v_dup (pc := 197) C dX1_token_197 rfl ?_
              refine gms_tok (pc := 198) (v := τ.tok) C rfl dX1_token_198 ?_
              refine v_iconst (pc := 201) C dX1_token_201 ci_1 ?_
              refine v_iaddN (pc := 202) C dX1_token_202 ?_
              refine pms_tok (pc := 203) (v := τ.tok + 1) C dX1_token_203 ?_
              refine v_aload_n (pc := 206) C dX1_token_206 rfl 0 rfl ?_
              refine gms_hei (pc := 207) (v := x + 1) C rfl dX1_token_207 ?_
              exact v_iret (pc := 210) C E (m_t1 τ k (a3 a) x) rfl (Or.inr ⟨hok, k, hk, rfl, rfl, Or.inr (Or.inr (Or.inl ⟨hc, x, hx, rfl⟩))⟩) dX1_token_210
            · skip
              exact absurd h139 (by omega)
          · skip
            exact absurd h100 (by decide)
      · skip
        have htk : takesN k = 1 := by rw [hc]; rfl
        rw [htk] at ht1
        obtain ⟨x, hx⟩ : ∃ x, τ.hei = x + 1 := ⟨τ.hei - 1, by omega⟩
        subst hc
        refine v_aload_n (pc := 46) C dX1_token_46 rfl 0 rfl ?_
        refine gms_cod (pc := 47) C dX1_token_47 ?_
        refine v_aload_n (pc := 50) C dX1_token_50 rfl 0 rfl ?_
        refine gms_tok (pc := 51) (v := τ.tok) C rfl dX1_token_51 ?_
        refine v_iload_n (pc := 54) C dX1_token_54 rfl 1 rfl ?_
        refine sms_cod (pc := 55) (j := τ.tok) (x := 7) C (by omega) dX1_token_55 ?_
        refine v_aload_n (pc := 56) C dX1_token_56 rfl 0 rfl ?_
        refine gms_arg (pc := 57) C dX1_token_57 ?_
        refine v_aload_n (pc := 60) C dX1_token_60 rfl 0 rfl ?_
        refine gms_tok (pc := 61) (v := τ.tok) C rfl dX1_token_61 ?_
        refine v_iload_n (pc := 64) C dX1_token_64 rfl 2 rfl ?_
        refine v_iconst (pc := 65) C dX1_token_65 ci_3 ?_
        refine v_iandE (v := nI (a3 a)) (pc := 66) C dX1_token_66 (a3_and a) ?_
        refine sms_arg (pc := 67) (j := τ.tok) (x := a3 a) C (by omega) dX1_token_67 ?_
        refine v_iload_n (pc := 68) C dX1_token_68 rfl 1 rfl ?_
        refine v_callSi (pc := 69) C [.int (nI 7)] 1 (met_m_takes (ms_arg (ms_cod τ (upN τ.cod τ.tok 7)) (upN τ.arg τ.tok (a3 a))) 7 hk) (lw_S q250 q251 q24 q252) (by decide +kernel) (by decide) rfl rfl (Nat.le_of_ble_eq_true rfl) dX1_token_69 (fun r u hu => ?_)
        obtain ⟨rfl, hu⟩ := hu
        rw [hu, htk]
        refine v_if_le (pc := 72) (tgt := 95) C dX1_token_72 (by decide) (fun h72 => ?_) (fun h72 => ?_)
        · skip
          exact absurd h72 (show ¬ nI 1 ≤ 0 by decide)
        · skip
          refine v_aload_n (pc := 75) C dX1_token_75 rfl 0 rfl ?_
          refine gms_rig (pc := 76) C dX1_token_76 ?_
          refine v_aload_n (pc := 79) C dX1_token_79 rfl 0 rfl ?_
          refine gms_tok (pc := 80) (v := τ.tok) C rfl dX1_token_80 ?_
          refine v_aload_n (pc := 83) C dX1_token_83 rfl 0 rfl ?_
          refine gms_stk (pc := 84) C dX1_token_84 ?_
          refine v_aload_n (pc := 87) C dX1_token_87 rfl 0 rfl ?_
          refine gms_hei (pc := 88) (v := τ.hei) C rfl dX1_token_88 ?_
          refine v_iconst (pc := 91) C dX1_token_91 ci_1 ?_
          refine v_isubE (v := nI x) (pc := 92) C dX1_token_92 (show nI τ.hei - nI 1 = nI x by rw [hx]; exact pk_sub (by omega)) ?_
          refine lms_stk (pc := 93) (j := x) (v := τ.stk x) C rfl (by omega) dX1_token_93 ?_
          refine sms_rig (pc := 94) (j := τ.tok) (x := τ.stk x) C (by omega) dX1_token_94 ?_
          refine v_iload_n (pc := 95) C dX1_token_95 rfl 1 rfl ?_
          refine v_callSi (pc := 96) C [.int (nI 7)] 1 (met_m_takes (ms_rig (ms_arg (ms_cod τ (upN τ.cod τ.tok 7)) (upN τ.arg τ.tok (a3 a))) (upN τ.rig τ.tok (τ.stk x))) 7 hk) (lw_S q250 q251 q24 q252) (by decide +kernel) (by decide) rfl rfl (Nat.le_of_ble_eq_true rfl) dX1_token_96 (fun r u hu => ?_)
          obtain ⟨rfl, hu⟩ := hu
          rw [hu, htk]
          refine v_iconst (pc := 99) C dX1_token_99 ci_2 ?_
          refine v_icmp_neN (pc := 100) (tgt := 123) C dX1_token_100 (by decide) (by omega) (by omega) (fun h100 => ?_) (fun h100 => ?_)
          · skip
            refine v_aload_n (pc := 123) C dX1_token_123 rfl 0 rfl ?_
            refine v_dup (pc := 124) C dX1_token_124 rfl ?_
            refine gms_hei (pc := 125) (v := τ.hei) C rfl dX1_token_125 ?_
            refine v_iload_n (pc := 128) C dX1_token_128 rfl 1 rfl ?_
            refine v_callSi (pc := 129) C [.int (nI 7)] 1 (met_m_takes (ms_rig (ms_arg (ms_cod τ (upN τ.cod τ.tok 7)) (upN τ.arg τ.tok (a3 a))) (upN τ.rig τ.tok (τ.stk x))) 7 hk) (lw_S q250 q251 q24 q252) (by decide +kernel) (by decide) rfl rfl (Nat.le_of_ble_eq_true rfl) dX1_token_129 (fun r u hu => ?_)
            obtain ⟨rfl, hu⟩ := hu
            rw [hu, htk]
            refine v_isubE (v := nI x) (pc := 132) C dX1_token_132 (show nI τ.hei - nI 1 = nI x by rw [hx]; exact pk_sub (by omega)) ?_
            refine pms_hei (pc := 133) (v := x) C dX1_token_133 ?_
            refine v_iload_n (pc := 136) C dX1_token_136 rfl 1 rfl ?_
            refine v_bipush (pc := 137) C dX1_token_137 cb_7 ?_
            refine v_icmp_neN (pc := 139) (tgt := 173) C dX1_token_139 (by decide) (by omega) (by omega) (fun h139 => ?_) (fun h139 => ?_)
            · skip
              exact absurd rfl h139
            · skip
              refine v_aload_n (pc := 142) C dX1_token_142 rfl 0 rfl ?_
              refine gms_rof (pc := 143) C dX1_token_143 ?_
              refine v_aload_n (pc := 146) C dX1_token_146 rfl 0 rfl ?_
              refine gms_rul (pc := 147) (v := τ.rul) C rfl dX1_token_147 ?_
              refine v_aload_n (pc := 150) C dX1_token_150 rfl 0 rfl ?_
              refine gms_rig (pc := 151) C dX1_token_151 ?_
              refine v_aload_n (pc := 154) C dX1_token_154 rfl 0 rfl ?_
              refine gms_tok (pc := 155) (v := τ.tok) C rfl dX1_token_155 ?_
              refine lms_rig (pc := 158) (j := τ.tok) (v := τ.stk x) C upN_s (by omega) dX1_token_158 ?_
              refine sms_rof (pc := 159) (j := τ.rul) (x := τ.stk x) C (ht3 rfl) dX1_token_159 ?_
              refine v_aload_n (pc := 160) C dX1_token_160 rfl 0 rfl ?_
              refine v_dup (pc := 161) C dX1_token_161 rfl ?_
              refine gms_rul (pc := 162) (v := τ.rul) C rfl dX1_token_162 ?_
              refine v_iconst (pc := 165) C dX1_token_165 ci_1 ?_
              refine v_iaddN (pc := 166) C dX1_token_166 ?_
              refine pms_rul (pc := 167) (v := τ.rul + 1) C dX1_token_167 ?_
              refine v_goto (tgt := 196) (pc := 170) C dX1_token_170 (by decide) ?_
              refine v_aload_n (pc := 196) C dX1_token_196 rfl 0 rfl ?_
              refine v_dup (pc := 197) C dX1_token_197 rfl ?_
              refine gms_tok (pc := 198) (v := τ.tok) C rfl dX1_token_198 ?_
              refine v_iconst (pc := 201) C dX1_token_201 ci_1 ?_
              refine v_iaddN (pc := 202) C dX1_token_202 ?_
              refine pms_tok (pc := 203) (v := τ.tok + 1) C dX1_token_203 ?_
              refine v_aload_n (pc := 206) C dX1_token_206 rfl 0 rfl ?_
              refine gms_hei (pc := 207) (v := x) C rfl dX1_token_207 ?_
              exact v_iret (pc := 210) C E (m_t7 τ (a3 a) x) rfl (Or.inr ⟨hok, 7, hk, rfl, rfl, Or.inr (Or.inr (Or.inr ⟨rfl, x, hx, rfl⟩))⟩) dX1_token_210
          · skip
            exact absurd h100 (by decide)
    refine v_iload_n (pc := 0) C dX1_token_0 rfl 1 rfl ?_
    refine v_if_lt (pc := 1) (tgt := 44) C dX1_token_1 (by decide) (fun h1 => ?_) (fun h1 => ?_)
    · skip
      exact absurd h1 (nI_pos (by omega))
    · skip
      refine v_iload_n (pc := 4) C dX1_token_4 rfl 1 rfl ?_
      refine v_bipush (pc := 5) C dX1_token_5 cb_7 ?_
      refine v_icmp_gtN (pc := 7) (tgt := 44) C dX1_token_7 (by decide) (by omega) (by omega) (fun h7 => ?_) (fun h7 => ?_)
      · skip
        exact absurd h7 (by omega)
      · skip
        refine v_aload_n (pc := 10) C dX1_token_10 rfl 0 rfl ?_
        refine gms_hei (pc := 11) (v := τ.hei) C rfl dX1_token_11 ?_
        refine v_iload_n (pc := 14) C dX1_token_14 rfl 1 rfl ?_
        refine v_callSi (pc := 15) C [.int (nI k)] 1 (met_m_takes τ k hk) (lw_S q250 q251 q24 q252) (by decide +kernel) (by decide) rfl rfl (Nat.le_of_ble_eq_true rfl) dX1_token_15 (fun r u hu => ?_)
        obtain ⟨rfl, hu⟩ := hu
        rw [hu]
        refine v_icmp_ltN (pc := 18) (tgt := 44) C dX1_token_18 (by decide) (by omega) (by omega) (fun h18 => ?_) (fun h18 => ?_)
        · skip
          refine v_iconst (pc := 44) C dX1_token_44 ci_m1 ?_
          exact v_iret (pc := 45) C E τ rfl (Or.inl ⟨(by rintro ⟨j, hj, ej, h1, h2, h3⟩; obtain rfl := tk_inj hk hj ej; first | omega | exact absurd (h3 (by omega)) (by omega)), rfl, rfl⟩) dX1_token_45
        · skip
          refine v_aload_n (pc := 21) C dX1_token_21 rfl 0 rfl ?_
          refine gms_tok (pc := 22) (v := τ.tok) C rfl dX1_token_22 ?_
          refine v_bipush (pc := 25) C dX1_token_25 cb_40 ?_
          refine v_icmp_eqN (pc := 27) (tgt := 44) C dX1_token_27 (by decide) (by omega) (by omega) (fun h27 => ?_) (fun h27 => ?_)
          · skip
            refine v_iconst (pc := 44) C dX1_token_44 ci_m1 ?_
            exact v_iret (pc := 45) C E τ rfl (Or.inl ⟨(by rintro ⟨j, hj, ej, h1, h2, h3⟩; obtain rfl := tk_inj hk hj ej; first | omega | exact absurd (h3 (by omega)) (by omega)), rfl, rfl⟩) dX1_token_45
          · skip
            refine v_iload_n (pc := 30) C dX1_token_30 rfl 1 rfl ?_
            refine v_bipush (pc := 31) C dX1_token_31 cb_7 ?_
            refine v_icmp_neN (pc := 33) (tgt := 46) C dX1_token_33 (by decide) (by omega) (by omega) (fun h33 => ?_) (fun h33 => ?_)
            · skip
              exact J46 (by omega) (by omega) (by omega)
            · skip
              refine v_aload_n (pc := 36) C dX1_token_36 rfl 0 rfl ?_
              refine gms_rul (pc := 37) (v := τ.rul) C rfl dX1_token_37 ?_
              refine v_iconst (pc := 40) C dX1_token_40 ci_5 ?_
              refine v_icmp_neN (pc := 41) (tgt := 46) C dX1_token_41 (by decide) (by omega) (by omega) (fun h41 => ?_) (fun h41 => ?_)
              · skip
                exact J46 (by omega) (by omega) (by omega)
              · skip
                refine v_iconst (pc := 44) C dX1_token_44 ci_m1 ?_
                exact v_iret (pc := 45) C E τ rfl (Or.inl ⟨(by rintro ⟨j, hj, ej, h1, h2, h3⟩; obtain rfl := tk_inj hk hj ej; first | omega | exact absurd (h3 (by omega)) (by omega)), rfl, rfl⟩) dX1_token_45
end MS1
end
section
set_option maxRecDepth 100000
section MS1
/-- what matched(t, i, j) answers -/
def mF (τ : MS) (t i j : Nat) : Bool :=
  if τ.cod t = 0 then decide (j = i + 1) && decide (τ.row i = τ.arg t)
  else if τ.cod t = 1 then decide (j = i + 1)
  else if τ.cod t = 2 then decide (i = j)
  else if τ.cod t = 3 then bthF τ (τ.lef t) (τ.rig t) i j 0
  else if τ.cod t = 4 then τ.fit (ix (τ.lef t) i j) || τ.fit (ix (τ.rig t) i j)
  else if τ.cod t = 7 then false
  else if τ.cod t = 5 then decide (i = j) || bthF τ (τ.rig t) t i j 1
  else τ.fit (ix (τ.rig t) i j) || bthF τ (τ.rig t) t i j 1
set_option maxHeartbeats 4000000 in
theorem met_m_matched {l : Launch} {D : va_G} {ad : Nat → Nat} {ci cj cz : ClassId} (τ : MS) (t i j : Nat) (h1 : t < 40) (h2 : i ≤ j) (h3 : j ≤ 30) (h4 : τ.lef t < 40) (h5 : τ.rig t < 40) (h6 : τ.cod t ≤ 7) (h7 : j = i + 1 → τ.row i < 2 ^ 31) (h8 : τ.arg t < 2 ^ 31) : vMi l D (vTy ci cj cz) yX1_matched cX1_matched 7 (some .boolean) 2 [.ref (ad 0), .int (nI t), .int (nI i), .int (nI j)] (mW ad ci cj cz τ) ad 10 (fun r u => r = bI (mF τ t i j) ∧ u = τ) (mW ad ci cj cz) := by
  refine vMi_of (by decide) (Nat.le_of_ble_eq_true rfl) mW_at ?_
  intro X C E
  have C : vC X cX1_matched RX1 7 (vTy ci cj cz) (vRm 2) ad 10 := C
  refine v_lv (lv' := [(0, .ref (ad 0)), (1, .int (nI t)), (2, .int (nI i)), (3, .int (nI j))]) rfl ?_
  refine v_aload_n (pc := 0) C dX1_matched_0 rfl 0 rfl ?_
  refine gms_cod (pc := 1) C dX1_matched_1 ?_
  refine v_iload_n (pc := 4) C dX1_matched_4 rfl 1 rfl ?_
  refine lms_cod (pc := 5) (j := t) (v := τ.cod t) C rfl (by omega) dX1_matched_5 ?_
  refine v_istore (pc := 6) C dX1_matched_6 (by decide) (lv' := [(4, .int (nI (τ.cod t))), (0, .ref (ad 0)), (1, .int (nI t)), (2, .int (nI i)), (3, .int (nI j))]) rfl ?_
  refine v_aload_n (pc := 8) C dX1_matched_8 rfl 1 rfl ?_
  refine gms_rig (pc := 9) C dX1_matched_9 ?_
  refine v_iload_n (pc := 12) C dX1_matched_12 rfl 2 rfl ?_
  refine lms_rig (pc := 13) (j := t) (v := τ.rig t) C rfl (by omega) dX1_matched_13 ?_
  refine v_istore (pc := 14) C dX1_matched_14 (by decide) (lv' := [(5, .int (nI (τ.rig t))), (4, .int (nI (τ.cod t))), (0, .ref (ad 0)), (1, .int (nI t)), (2, .int (nI i)), (3, .int (nI j))]) rfl ?_
  refine v_iload (pc := 16) C dX1_matched_16 1 rfl ?_
  refine v_if_neN (pc := 18) (tgt := 49) C dX1_matched_18 (by decide) (by omega) (fun h18 => ?_) (fun h18 => ?_)
  · skip
    have h18 : ¬ τ.cod t = 0 := by omega
    refine v_iload (pc := 49) C dX1_matched_49 1 rfl ?_
    refine v_iconst (pc := 51) C dX1_matched_51 ci_1 ?_
    refine v_icmp_neN (pc := 52) (tgt := 68) C dX1_matched_52 (by decide) (by omega) (by omega) (fun h52 => ?_) (fun h52 => ?_)
    · skip
      refine v_iload (pc := 68) C dX1_matched_68 1 rfl ?_
      refine v_iconst (pc := 70) C dX1_matched_70 ci_2 ?_
      refine v_icmp_neN (pc := 71) (tgt := 85) C dX1_matched_71 (by decide) (by omega) (by omega) (fun h71 => ?_) (fun h71 => ?_)
      · skip
        refine v_iload (pc := 85) C dX1_matched_85 1 rfl ?_
        refine v_iconst (pc := 87) C dX1_matched_87 ci_3 ?_
        refine v_icmp_neN (pc := 88) (tgt := 107) C dX1_matched_88 (by decide) (by omega) (by omega) (fun h88 => ?_) (fun h88 => ?_)
        · skip
          refine v_iload (pc := 107) C dX1_matched_107 1 rfl ?_
          refine v_iconst (pc := 109) C dX1_matched_109 ci_4 ?_
          refine v_icmp_neN (pc := 110) (tgt := 145) C dX1_matched_110 (by decide) (by omega) (by omega) (fun h110 => ?_) (fun h110 => ?_)
          · skip
            refine v_iload (pc := 145) C dX1_matched_145 1 rfl ?_
            refine v_bipush (pc := 147) C dX1_matched_147 cb_7 ?_
            refine v_icmp_neN (pc := 149) (tgt := 154) C dX1_matched_149 (by decide) (by omega) (by omega) (fun h149 => ?_) (fun h149 => ?_)
            · skip
              refine v_aload_n (pc := 154) C dX1_matched_154 rfl 2 rfl ?_
              refine v_iload (pc := 155) C dX1_matched_155 0 rfl ?_
              refine v_iload_n (pc := 157) C dX1_matched_157 rfl 3 rfl ?_
              refine v_iload_n (pc := 158) C dX1_matched_158 rfl 4 rfl ?_
              refine v_iload_n (pc := 159) C dX1_matched_159 rfl 5 rfl ?_
              refine v_iconst (pc := 160) C dX1_matched_160 ci_1 ?_
              refine v_calli (pc := 161) C [.int (nI (τ.rig t)), .int (nI t), .int (nI i), .int (nI j), .int (nI 1)] 5 (met_m_both τ (τ.rig t) t i j 1 (by omega) (by omega) (by omega) (by omega) (by omega)) (lw_V q281 q283 qs17 q24 q284) (by decide +kernel) (by decide) (ci := 1) (q0 := 0) rfl rfl rfl rfl (Nat.le_of_ble_eq_true rfl) dX1_matched_161 (fun r u hu => ?_)
              obtain ⟨rfl, hu⟩ := hu
              rw [hu]
              refine v_istore (pc := 164) C dX1_matched_164 (by decide) (lv' := [(6, .int (bI (bthF τ (τ.rig t) t i j 1))), (5, .int (nI (τ.rig t))), (4, .int (nI (τ.cod t))), (0, .ref (ad 0)), (1, .int (nI t)), (2, .int (nI i)), (3, .int (nI j))]) rfl ?_
              refine v_iload (pc := 166) C dX1_matched_166 2 rfl ?_
              refine v_iconst (pc := 168) C dX1_matched_168 ci_5 ?_
              refine v_icmp_neN (pc := 169) (tgt := 190) C dX1_matched_169 (by decide) (by omega) (by omega) (fun h169 => ?_) (fun h169 => ?_)
              · skip
                refine v_aload_n (pc := 190) C dX1_matched_190 rfl 3 rfl ?_
                refine v_iload (pc := 191) C dX1_matched_191 1 rfl ?_
                refine v_iload_n (pc := 193) C dX1_matched_193 rfl 5 rfl ?_
                refine v_iload_n (pc := 194) C dX1_matched_194 rfl 6 rfl ?_
                refine v_calli (pc := 195) C [.int (nI (τ.rig t)), .int (nI i), .int (nI j)] 3 (met_m_is τ (τ.rig t) i j (by omega) (by omega) (by omega)) (lw_V q285 q287 qs18 q24 q288) (by decide +kernel) (by decide) (ci := 1) (q0 := 0) rfl rfl rfl rfl (Nat.le_of_ble_eq_true rfl) dX1_matched_195 (fun r u hu => ?_)
                obtain ⟨rfl, hu⟩ := hu
                rw [hu]
                refine v_if_neB (pc := 198) (tgt := 206) C dX1_matched_198 (by decide) (fun h198 => ?_) (fun h198 => ?_)
                · skip
                  refine v_iconst (pc := 206) C dX1_matched_206 cz_1 ?_
                  refine v_goto (tgt := 211) (pc := 207) C dX1_matched_207 (by decide) ?_
                  exact v_zret (pc := 211) C E τ rfl ⟨congrArg bI (show true = mF τ t i j by rw [mF, if_neg h18, if_neg h52, if_neg h71, if_neg h88, if_neg h110, if_neg h149, if_neg h169]; simp [h198]), rfl⟩ dX1_matched_211
                · skip
                  refine v_iload (pc := 201) C dX1_matched_201 0 rfl ?_
                  refine v_if_eqB (pc := 203) (tgt := 210) C dX1_matched_203 (by decide) (fun h203 => ?_) (fun h203 => ?_)
                  · skip
                    refine v_iconst (pc := 210) C dX1_matched_210 cz_0 ?_
                    exact v_zret (pc := 211) C E τ rfl ⟨congrArg bI (show false = mF τ t i j by rw [mF, if_neg h18, if_neg h52, if_neg h71, if_neg h88, if_neg h110, if_neg h149, if_neg h169]; simp [h198, h203]), rfl⟩ dX1_matched_211
                  · skip
                    refine v_iconst (pc := 206) C dX1_matched_206 cz_1 ?_
                    refine v_goto (tgt := 211) (pc := 207) C dX1_matched_207 (by decide) ?_
                    exact v_zret (pc := 211) C E τ rfl ⟨congrArg bI (show true = mF τ t i j by rw [mF, if_neg h18, if_neg h52, if_neg h71, if_neg h88, if_neg h110, if_neg h149, if_neg h169]; simp [h198, h203]), rfl⟩ dX1_matched_211
              · skip
                refine v_iload_n (pc := 172) C dX1_matched_172 rfl 5 rfl ?_
                refine v_iload_n (pc := 173) C dX1_matched_173 rfl 6 rfl ?_
                refine v_icmp_eqN (pc := 174) (tgt := 182) C dX1_matched_174 (by decide) (by omega) (by omega) (fun h174 => ?_) (fun h174 => ?_)
                · skip
                  refine v_iconst (pc := 182) C dX1_matched_182 cz_1 ?_
                  refine v_goto (tgt := 211) (pc := 183) C dX1_matched_183 (by decide) ?_
                  exact v_zret (pc := 211) C E τ rfl ⟨congrArg bI (show true = mF τ t i j by rw [mF, if_neg h18, if_neg h52, if_neg h71, if_neg h88, if_neg h110, if_neg h149, if_pos h169]; simp [h174]), rfl⟩ dX1_matched_211
                · skip
                  refine v_iload (pc := 177) C dX1_matched_177 0 rfl ?_
                  refine v_if_eqB (pc := 179) (tgt := 186) C dX1_matched_179 (by decide) (fun h179 => ?_) (fun h179 => ?_)
                  · skip
                    refine v_iconst (pc := 186) C dX1_matched_186 cz_0 ?_
                    refine v_goto (tgt := 211) (pc := 187) C dX1_matched_187 (by decide) ?_
                    exact v_zret (pc := 211) C E τ rfl ⟨congrArg bI (show false = mF τ t i j by rw [mF, if_neg h18, if_neg h52, if_neg h71, if_neg h88, if_neg h110, if_neg h149, if_pos h169]; simp [h174, h179]), rfl⟩ dX1_matched_211
                  · skip
                    refine v_iconst (pc := 182) C dX1_matched_182 cz_1 ?_
                    refine v_goto (tgt := 211) (pc := 183) C dX1_matched_183 (by decide) ?_
                    exact v_zret (pc := 211) C E τ rfl ⟨congrArg bI (show true = mF τ t i j by rw [mF, if_neg h18, if_neg h52, if_neg h71, if_neg h88, if_neg h110, if_neg h149, if_pos h169]; simp [h174, h179]), rfl⟩ dX1_matched_211
            · skip
              refine v_iconst (pc := 152) C dX1_matched_152 cz_0 ?_
              exact v_zret (pc := 153) C E τ rfl ⟨congrArg bI (show false = mF τ t i j by rw [mF, if_neg h18, if_neg h52, if_neg h71, if_neg h88, if_neg h110, if_pos h149]), rfl⟩ dX1_matched_153
          · skip
            refine v_aload_n (pc := 113) C dX1_matched_113 rfl 2 rfl ?_
            refine v_aload_n (pc := 114) C dX1_matched_114 rfl 2 rfl ?_
            refine gms_lef (pc := 115) C dX1_matched_115 ?_
            refine v_iload_n (pc := 118) C dX1_matched_118 rfl 3 rfl ?_
            refine lms_lef (pc := 119) (j := t) (v := τ.lef t) C rfl (by omega) dX1_matched_119 ?_
            refine v_iload_n (pc := 120) C dX1_matched_120 rfl 4 rfl ?_
            refine v_iload_n (pc := 121) C dX1_matched_121 rfl 5 rfl ?_
            refine v_calli (pc := 122) C [.int (nI (τ.lef t)), .int (nI i), .int (nI j)] 3 (met_m_is τ (τ.lef t) i j (by omega) (by omega) (by omega)) (lw_V q285 q287 qs18 q24 q288) (by decide +kernel) (by decide) (ci := 1) (q0 := 0) rfl rfl rfl rfl (Nat.le_of_ble_eq_true rfl) dX1_matched_122 (fun r u hu => ?_)
            obtain ⟨rfl, hu⟩ := hu
            rw [hu]
            refine v_if_neB (pc := 125) (tgt := 139) C dX1_matched_125 (by decide) (fun h125 => ?_) (fun h125 => ?_)
            · skip
              refine v_iconst (pc := 139) C dX1_matched_139 cz_1 ?_
              refine v_goto (tgt := 144) (pc := 140) C dX1_matched_140 (by decide) ?_
              exact v_zret (pc := 144) C E τ rfl ⟨congrArg bI (show true = mF τ t i j by rw [mF, if_neg h18, if_neg h52, if_neg h71, if_neg h88, if_pos h110]; simp [h125]), rfl⟩ dX1_matched_144
            · skip
              refine v_aload_n (pc := 128) C dX1_matched_128 rfl 2 rfl ?_
              refine v_iload (pc := 129) C dX1_matched_129 0 rfl ?_
              refine v_iload_n (pc := 131) C dX1_matched_131 rfl 4 rfl ?_
              refine v_iload_n (pc := 132) C dX1_matched_132 rfl 5 rfl ?_
              refine v_calli (pc := 133) C [.int (nI (τ.rig t)), .int (nI i), .int (nI j)] 3 (met_m_is τ (τ.rig t) i j (by omega) (by omega) (by omega)) (lw_V q285 q287 qs18 q24 q288) (by decide +kernel) (by decide) (ci := 1) (q0 := 0) rfl rfl rfl rfl (Nat.le_of_ble_eq_true rfl) dX1_matched_133 (fun r u hu => ?_)
              obtain ⟨rfl, hu⟩ := hu
              rw [hu]
              refine v_if_eqB (pc := 136) (tgt := 143) C dX1_matched_136 (by decide) (fun h136 => ?_) (fun h136 => ?_)
              · skip
                refine v_iconst (pc := 143) C dX1_matched_143 cz_0 ?_
                exact v_zret (pc := 144) C E τ rfl ⟨congrArg bI (show false = mF τ t i j by rw [mF, if_neg h18, if_neg h52, if_neg h71, if_neg h88, if_pos h110]; simp [h125, h136]), rfl⟩ dX1_matched_144
              · skip
                refine v_iconst (pc := 139) C dX1_matched_139 cz_1 ?_
                refine v_goto (tgt := 144) (pc := 140) C dX1_matched_140 (by decide) ?_
                exact v_zret (pc := 144) C E τ rfl ⟨congrArg bI (show true = mF τ t i j by rw [mF, if_neg h18, if_neg h52, if_neg h71, if_neg h88, if_pos h110]; simp [h125, h136]), rfl⟩ dX1_matched_144
        · skip
          refine v_aload_n (pc := 91) C dX1_matched_91 rfl 2 rfl ?_
          refine v_aload_n (pc := 92) C dX1_matched_92 rfl 2 rfl ?_
          refine gms_lef (pc := 93) C dX1_matched_93 ?_
          refine v_iload_n (pc := 96) C dX1_matched_96 rfl 3 rfl ?_
          refine lms_lef (pc := 97) (j := t) (v := τ.lef t) C rfl (by omega) dX1_matched_97 ?_
          refine v_iload (pc := 98) C dX1_matched_98 0 rfl ?_
          refine v_iload_n (pc := 100) C dX1_matched_100 rfl 4 rfl ?_
          refine v_iload_n (pc := 101) C dX1_matched_101 rfl 5 rfl ?_
          refine v_iconst (pc := 102) C dX1_matched_102 ci_0 ?_
          refine v_calli (pc := 103) C [.int (nI (τ.lef t)), .int (nI (τ.rig t)), .int (nI i), .int (nI j), .int (nI 0)] 5 (met_m_both τ (τ.lef t) (τ.rig t) i j 0 (by omega) (by omega) (by omega) (by omega) (by omega)) (lw_V q281 q283 qs17 q24 q284) (by decide +kernel) (by decide) (ci := 1) (q0 := 0) rfl rfl rfl rfl (Nat.le_of_ble_eq_true rfl) dX1_matched_103 (fun r u hu => ?_)
          obtain ⟨rfl, hu⟩ := hu
          rw [hu]
          exact v_zret (pc := 106) C E τ rfl ⟨congrArg bI (show (bthF τ (τ.lef t) (τ.rig t) i j 0) = mF τ t i j by rw [mF, if_neg h18, if_neg h52, if_neg h71, if_pos h88]), rfl⟩ dX1_matched_106
      · skip
        refine v_iload_n (pc := 74) C dX1_matched_74 rfl 4 rfl ?_
        refine v_iload_n (pc := 75) C dX1_matched_75 rfl 5 rfl ?_
        refine v_icmp_neN (pc := 76) (tgt := 83) C dX1_matched_76 (by decide) (by omega) (by omega) (fun h76 => ?_) (fun h76 => ?_)
        · skip
          refine v_iconst (pc := 83) C dX1_matched_83 cz_0 ?_
          exact v_zret (pc := 84) C E τ rfl ⟨congrArg bI (show false = mF τ t i j by rw [mF, if_neg h18, if_neg h52, if_pos h71]; simp [h76]), rfl⟩ dX1_matched_84
        · skip
          refine v_iconst (pc := 79) C dX1_matched_79 cz_1 ?_
          refine v_goto (tgt := 84) (pc := 80) C dX1_matched_80 (by decide) ?_
          exact v_zret (pc := 84) C E τ rfl ⟨congrArg bI (show true = mF τ t i j by rw [mF, if_neg h18, if_neg h52, if_pos h71]; simp [h76]), rfl⟩ dX1_matched_84
    · skip
      refine v_iload_n (pc := 55) C dX1_matched_55 rfl 5 rfl ?_
      refine v_iload_n (pc := 56) C dX1_matched_56 rfl 4 rfl ?_
      refine v_iconst (pc := 57) C dX1_matched_57 ci_1 ?_
      refine v_iaddN (pc := 58) C dX1_matched_58 ?_
      refine v_icmp_neN (pc := 59) (tgt := 66) C dX1_matched_59 (by decide) (by omega) (by omega) (fun h59 => ?_) (fun h59 => ?_)
      · skip
        refine v_iconst (pc := 66) C dX1_matched_66 cz_0 ?_
        exact v_zret (pc := 67) C E τ rfl ⟨congrArg bI (show false = mF τ t i j by rw [mF, if_neg h18, if_pos h52]; simp [h59]), rfl⟩ dX1_matched_67
      · skip
        refine v_iconst (pc := 62) C dX1_matched_62 cz_1 ?_
        refine v_goto (tgt := 67) (pc := 63) C dX1_matched_63 (by decide) ?_
        exact v_zret (pc := 67) C E τ rfl ⟨congrArg bI (show true = mF τ t i j by rw [mF, if_neg h18, if_pos h52]; simp [h59]), rfl⟩ dX1_matched_67
  · skip
    refine v_iload_n (pc := 21) C dX1_matched_21 rfl 5 rfl ?_
    refine v_iload_n (pc := 22) C dX1_matched_22 rfl 4 rfl ?_
    refine v_iconst (pc := 23) C dX1_matched_23 ci_1 ?_
    refine v_iaddN (pc := 24) C dX1_matched_24 ?_
    refine v_icmp_neN (pc := 25) (tgt := 47) C dX1_matched_25 (by decide) (by omega) (by omega) (fun h25 => ?_) (fun h25 => ?_)
    · skip
      refine v_iconst (pc := 47) C dX1_matched_47 cz_0 ?_
      exact v_zret (pc := 48) C E τ rfl ⟨congrArg bI (show false = mF τ t i j by rw [mF, if_pos h18]; simp [h25]), rfl⟩ dX1_matched_48
    · skip
      have h7 := h7 h25
      refine v_aload_n (pc := 28) C dX1_matched_28 rfl 2 rfl ?_
      refine gms_row (pc := 29) C dX1_matched_29 ?_
      refine v_iload_n (pc := 32) C dX1_matched_32 rfl 4 rfl ?_
      refine lms_row (pc := 33) (j := i) (v := τ.row i) C rfl (by omega) dX1_matched_33 ?_
      refine v_aload_n (pc := 34) C dX1_matched_34 rfl 2 rfl ?_
      refine gms_arg (pc := 35) C dX1_matched_35 ?_
      refine v_iload_n (pc := 38) C dX1_matched_38 rfl 3 rfl ?_
      refine lms_arg (pc := 39) (j := t) (v := τ.arg t) C rfl (by omega) dX1_matched_39 ?_
      refine v_icmp_neN (pc := 40) (tgt := 47) C dX1_matched_40 (by decide) (by omega) (by omega) (fun h40 => ?_) (fun h40 => ?_)
      · skip
        refine v_iconst (pc := 47) C dX1_matched_47 cz_0 ?_
        exact v_zret (pc := 48) C E τ rfl ⟨congrArg bI (show false = mF τ t i j by rw [mF, if_pos h18]; simp [h25, h40]), rfl⟩ dX1_matched_48
      · skip
        refine v_iconst (pc := 43) C dX1_matched_43 cz_1 ?_
        refine v_goto (tgt := 48) (pc := 44) C dX1_matched_44 (by decide) ?_
        exact v_zret (pc := 48) C E τ rfl ⟨congrArg bI (show true = mF τ t i j by rw [mF, if_pos h18]; simp [h25, h40]), rfl⟩ dX1_matched_48
abbrev iP (sz p : Nat) : Nat := sz - p / (sz + 1)
abbrev jP (sz p : Nat) : Nat := p % (sz + 1)
/-- the table of pieces behind p pieces of token t -/
def wkP (τ : MS) (t : Nat) : Nat → Nat → Bool
  | 0 => τ.fit
  | p + 1 => upB (wkP τ t p) (ix t (iP τ.siz p) (jP τ.siz p)) (decide (iP τ.siz p ≤ jP τ.siz p) && mF (ms_fit τ (wkP τ t p)) t (iP τ.siz p) (jP τ.siz p))
/-- the table of pieces behind t tokens -/
def wkT (τ : MS) : Nat → Nat → Bool
  | 0 => τ.fit
  | t + 1 => wkP (ms_fit τ (wkT τ t)) t ((τ.siz + 1) * (τ.siz + 1))
theorem iP_le (sz p : Nat) : iP sz p ≤ sz := Nat.sub_le _ _
theorem jP_le (sz p : Nat) : jP sz p ≤ sz := by
  have := Nat.mod_lt p (show 0 < sz + 1 by omega)
  show p % (sz + 1) ≤ sz
  omega
theorem sq_le {n : Nat} (h : n ≤ 30) : (n + 1) * (n + 1) ≤ 961 := Nat.mul_le_mul (show n + 1 ≤ 31 by omega) (show n + 1 ≤ 31 by omega)
/-- the model's arrays hold what may be held -/
def mOk (τ : MS) : Prop := (∀ t, t < 40 → τ.lef t < 40 ∧ τ.rig t < 40 ∧ τ.cod t ≤ 7 ∧ τ.arg t < 4) ∧ ∀ k, k < 30 → τ.row k < 4
set_option maxHeartbeats 4000000 in
theorem met_m_work {l : Launch} {D : va_G} {ad : Nat → Nat} {ci cj cz : ClassId} (τ : MS) (hs : τ.siz ≤ 30) (ht : τ.tok ≤ 40) (hO : mOk τ) : vMv l D (vTy ci cj cz) yX1_work cX1_work 5 3 [.ref (ad 0)] (mW ad ci cj cz τ) ad 10 (fun u => u = ms_fit τ (wkT τ τ.tok)) (mW ad ci cj cz) := by
  refine vMv_of (by decide) (Nat.le_of_ble_eq_true rfl) mW_at ?_
  intro X C E
  have C : vC X cX1_work RX1 5 (vTy ci cj cz) (vRm 3) ad 10 := C
  refine v_lv (lv' := [(0, .ref (ad 0))]) rfl ?_
  have hsq := sq_le hs
  have L : ∀ t, t ≤ τ.tok → vV X (mW ad ci cj cz (ms_fit τ (wkT τ t))) 2 [(1, .int (nI t)), (0, .ref (ad 0))] [] := by
    refine lp_up (fun t htt ih => ?_)
    have L2 : t < τ.tok → ∀ p, p ≤ (τ.siz + 1) * (τ.siz + 1) → vV X (mW ad ci cj cz (ms_fit τ (wkP (ms_fit τ (wkT τ t)) t p))) 12 [(2, .int (nI p)), (1, .int (nI t)), (0, .ref (ad 0))] [] := by
      intro ht2
      refine lp_up (fun p hp ih2 => ?_)
      have hd : p / (τ.siz + 1) ≤ p := Nat.div_le_self _ _
      refine v_iload_n (pc := 12) C dX1_work_12 rfl 0 rfl ?_
      refine v_aload_n (pc := 13) C dX1_work_13 rfl 2 rfl ?_
      refine gms_siz (pc := 14) (v := τ.siz) C rfl dX1_work_14 ?_
      refine v_iconst (pc := 17) C dX1_work_17 ci_1 ?_
      refine v_iaddN (pc := 18) C dX1_work_18 ?_
      refine v_aload_n (pc := 19) C dX1_work_19 rfl 2 rfl ?_
      refine gms_siz (pc := 20) (v := τ.siz) C rfl dX1_work_20 ?_
      refine v_iconst (pc := 23) C dX1_work_23 ci_1 ?_
      refine v_iaddN (pc := 24) C dX1_work_24 ?_
      refine v_imulN (pc := 25) C dX1_work_25 ?_
      refine v_icmp_geN (pc := 26) (tgt := 99) C dX1_work_26 (by decide) (by omega) (by omega) (fun h26 => ?_) (fun h26 => ?_)
      · skip
        obtain rfl : p = (τ.siz + 1) * (τ.siz + 1) := by omega
        refine v_iinc (pc := 99) C dX1_work_99 1 rfl (v_inc t) (by decide) (lv' := [(1, .int (nI (t + 1))), (2, .int (nI ((τ.siz + 1) * (τ.siz + 1)))), (0, .ref (ad 0))]) rfl ?_
        refine v_goto (tgt := 2) (pc := 102) C dX1_work_102 (by decide) ?_
        exact v_sub [0, 2] rfl (ih ht2)
      · skip
        have hdv : p / (τ.siz + 1) < τ.siz + 1 := Nat.div_lt_of_lt_mul h26
        have hi9 := iP_le τ.siz p
        have hj9 := jP_le τ.siz p
        refine v_aload_n (pc := 29) C dX1_work_29 rfl 2 rfl ?_
        refine gms_siz (pc := 30) (v := τ.siz) C rfl dX1_work_30 ?_
        refine v_iload_n (pc := 33) C dX1_work_33 rfl 0 rfl ?_
        refine v_aload_n (pc := 34) C dX1_work_34 rfl 2 rfl ?_
        refine gms_siz (pc := 35) (v := τ.siz) C rfl dX1_work_35 ?_
        refine v_iconst (pc := 38) C dX1_work_38 ci_1 ?_
        refine v_iaddN (pc := 39) C dX1_work_39 ?_
        refine v_idivN (pc := 40) C dX1_work_40 (by omega) (by omega) (by omega) ?_
        refine v_isubN (pc := 41) C dX1_work_41 (by omega) ?_
        refine v_istore_n (pc := 42) C dX1_work_42 rfl (by decide) (lv' := [(3, .int (nI (iP τ.siz p))), (2, .int (nI p)), (1, .int (nI t)), (0, .ref (ad 0))]) rfl ?_
        refine v_iload_n (pc := 43) C dX1_work_43 rfl 1 rfl ?_
        refine v_aload_n (pc := 44) C dX1_work_44 rfl 3 rfl ?_
        refine gms_siz (pc := 45) (v := τ.siz) C rfl dX1_work_45 ?_
        refine v_iconst (pc := 48) C dX1_work_48 ci_1 ?_
        refine v_iaddN (pc := 49) C dX1_work_49 ?_
        refine v_iremN (pc := 50) C dX1_work_50 (by omega) (by omega) (by omega) ?_
        refine v_istore (pc := 51) C dX1_work_51 (by decide) (lv' := [(4, .int (nI (jP τ.siz p))), (3, .int (nI (iP τ.siz p))), (2, .int (nI p)), (1, .int (nI t)), (0, .ref (ad 0))]) rfl ?_
        refine v_aload_n (pc := 53) C dX1_work_53 rfl 4 rfl ?_
        refine gms_fit (pc := 54) C dX1_work_54 ?_
        refine v_sipush (pc := 57) C dX1_work_57 cs_961 ?_
        refine v_iload_n (pc := 60) C dX1_work_60 rfl 3 rfl ?_
        refine v_imulN (pc := 61) C dX1_work_61 ?_
        refine v_bipush (pc := 62) C dX1_work_62 cb_31 ?_
        refine v_iload_n (pc := 64) C dX1_work_64 rfl 1 rfl ?_
        refine v_imulN (pc := 65) C dX1_work_65 ?_
        refine v_iaddN (pc := 66) C dX1_work_66 ?_
        refine v_iload (pc := 67) C dX1_work_67 0 rfl ?_
        refine v_iaddN (pc := 69) C dX1_work_69 ?_
        refine v_iload_n (pc := 70) C dX1_work_70 rfl 1 rfl ?_
        refine v_iload (pc := 71) C dX1_work_71 0 rfl ?_
        have J92 : vV X (mW ad ci cj cz (ms_fit τ (wkP (ms_fit τ (wkT τ t)) t p))) 92 [(4, .int (nI (jP τ.siz p))), (3, .int (nI (iP τ.siz p))), (2, .int (nI p)), (1, .int (nI t)), (0, .ref (ad 0))] [.int (bI (decide (iP τ.siz p ≤ jP τ.siz p) && mF (ms_fit τ (wkP (ms_fit τ (wkT τ t)) t p)) t (iP τ.siz p) (jP τ.siz p))), .int (nI (((961 * t) + (31 * (iP τ.siz p))) + (jP τ.siz p))), .ref (ad 9)] := by
          refine sms_fit (pc := 92) (j := ((961 * t) + (31 * (iP τ.siz p))) + (jP τ.siz p)) (x := (decide (iP τ.siz p ≤ jP τ.siz p) && mF (ms_fit τ (wkP (ms_fit τ (wkT τ t)) t p)) t (iP τ.siz p) (jP τ.siz p))) C (show 961 * t + 31 * iP τ.siz p + jP τ.siz p < 38440 by have := iP_le τ.siz p; have := jP_le τ.siz p; omega) dX1_work_92 ?_
          skip
          refine v_iinc (pc := 93) C dX1_work_93 2 rfl (v_inc p) (by decide) (lv' := [(2, .int (nI (p + 1))), (4, .int (nI (jP τ.siz p))), (3, .int (nI (iP τ.siz p))), (1, .int (nI t)), (0, .ref (ad 0))]) rfl ?_
          refine v_goto (tgt := 12) (pc := 96) C dX1_work_96 (by decide) ?_
          exact v_sub [0, 3, 4] rfl (ih2 h26)
        refine v_icmp_gtN (pc := 73) (tgt := 91) C dX1_work_73 (by decide) (by omega) (by omega) (fun h73 => ?_) (fun h73 => ?_)
        · skip
          refine v_iconst (pc := 91) C dX1_work_91 cz_0 ?_
          exact v_st (congrArg (fun z9 => Value.int (bI z9) :: [.int (nI (((961 * t) + (31 * (iP τ.siz p))) + (jP τ.siz p))), .ref (ad 9)]) (show false = (decide (iP τ.siz p ≤ jP τ.siz p) && mF (ms_fit τ (wkP (ms_fit τ (wkT τ t)) t p)) t (iP τ.siz p) (jP τ.siz p)) from (by rw [decide_eq_false (by omega)]; rfl))) J92
        · skip
          refine v_aload_n (pc := 76) C dX1_work_76 rfl 4 rfl ?_
          refine v_iload_n (pc := 77) C dX1_work_77 rfl 3 rfl ?_
          refine v_iload_n (pc := 78) C dX1_work_78 rfl 1 rfl ?_
          refine v_iload (pc := 79) C dX1_work_79 0 rfl ?_
          refine v_calli (pc := 81) C [.int (nI t), .int (nI (iP τ.siz p)), .int (nI (jP τ.siz p))] 3 (met_m_matched (ms_fit τ (wkP (ms_fit τ (wkT τ t)) t p)) t (iP τ.siz p) (jP τ.siz p) (by omega) h73 (by have := jP_le τ.siz p; omega) (hO.1 t (by omega)).1 (hO.1 t (by omega)).2.1 (hO.1 t (by omega)).2.2.1 (fun e => Nat.lt_trans (hO.2 _ (by have := jP_le τ.siz p; omega)) (by decide)) (Nat.lt_trans (hO.1 t (by omega)).2.2.2 (by decide))) (lw_V q277 q279 qs16 q24 q280) (by decide +kernel) (by decide) (ci := 1) (q0 := 0) rfl rfl rfl rfl (Nat.le_of_ble_eq_true rfl) dX1_work_81 (fun r u hu => ?_)
          obtain ⟨rfl, hu⟩ := hu
          rw [hu]
          refine v_if_eqB (pc := 84) (tgt := 91) C dX1_work_84 (by decide) (fun h84 => ?_) (fun h84 => ?_)
          · skip
            refine v_iconst (pc := 91) C dX1_work_91 cz_0 ?_
            exact v_st (congrArg (fun z9 => Value.int (bI z9) :: [.int (nI (((961 * t) + (31 * (iP τ.siz p))) + (jP τ.siz p))), .ref (ad 9)]) (show false = (decide (iP τ.siz p ≤ jP τ.siz p) && mF (ms_fit τ (wkP (ms_fit τ (wkT τ t)) t p)) t (iP τ.siz p) (jP τ.siz p)) from (by rw [h84, Bool.and_false]))) J92
          · skip
            refine v_iconst (pc := 87) C dX1_work_87 cz_1 ?_
            refine v_goto (tgt := 92) (pc := 88) C dX1_work_88 (by decide) ?_
            exact v_st (congrArg (fun z9 => Value.int (bI z9) :: [.int (nI (((961 * t) + (31 * (iP τ.siz p))) + (jP τ.siz p))), .ref (ad 9)]) (show true = (decide (iP τ.siz p ≤ jP τ.siz p) && mF (ms_fit τ (wkP (ms_fit τ (wkT τ t)) t p)) t (iP τ.siz p) (jP τ.siz p)) from (by rw [h84, decide_eq_true h73]; rfl))) J92
    refine v_iload_n (pc := 2) C dX1_work_2 rfl 0 rfl ?_
    refine v_aload_n (pc := 3) C dX1_work_3 rfl 1 rfl ?_
    refine gms_tok (pc := 4) (v := τ.tok) C rfl dX1_work_4 ?_
    refine v_icmp_geN (pc := 7) (tgt := 105) C dX1_work_7 (by decide) (by omega) (by omega) (fun h7 => ?_) (fun h7 => ?_)
    · skip
      obtain rfl : t = τ.tok := by omega
      exact v_vret (pc := 105) C E (ms_fit τ (wkT τ τ.tok)) rfl rfl dX1_work_105
    · skip
      refine v_iconst (pc := 10) C dX1_work_10 ci_0 ?_
      refine v_istore_n (pc := 11) C dX1_work_11 rfl (by decide) (lv' := [(2, .int (nI 0)), (1, .int (nI t)), (0, .ref (ad 0))]) rfl ?_
      exact L2 h7 0 (Nat.zero_le _)
  refine v_iconst (pc := 0) C dX1_work_0 ci_0 ?_
  refine v_istore_n (pc := 1) C dX1_work_1 rfl (by decide) (lv' := [(1, .int (nI 0)), (0, .ref (ad 0))]) rfl ?_
  exact L 0 (Nat.zero_le _)
def cpN (f g : Nat → Nat) : Nat → Nat → Nat
  | 0 => f
  | n + 1 => upN (cpN f g n) n (g n)
theorem cpN_at (f g : Nat → Nat) (a : Nat) : ∀ n, cpN f g n a = if a < n then g a else f a := by
  intro n
  induction n with
  | zero => rw [if_neg (by omega)]; rfl
  | succ n ih =>
    show upN (cpN f g n) n (g n) a = _
    by_cases h : a = n
    · subst h
      rw [upN_s, if_pos (by omega)]
    · rw [upN_n h, ih]
      by_cases q : a < n
      · rw [if_pos q, if_pos (by omega)]
      · rw [if_neg q, if_neg (by omega)]
/-- the model with the text laid in its row -/
abbrev wRow (τ : MS) : MS := ms_row (ms_siz τ τ.len) (cpN τ.row τ.txt τ.len)
abbrev wText (τ : MS) : MS := ms_fit (wRow τ) (wkT (wRow τ) τ.tok)
theorem mOk_row {τ : MS} (h : mOk τ) (hl : ∀ j, j < τ.len → τ.txt j < 4) : mOk (wRow τ) := by
  refine ⟨h.1, fun k hk => ?_⟩
  show cpN τ.row τ.txt τ.len k < 4
  rw [cpN_at]
  by_cases q : k < τ.len
  · rw [if_pos q]; exact hl k q
  · rw [if_neg q]; exact h.2 k hk
set_option maxHeartbeats 4000000 in
theorem met_m_workText {l : Launch} {D : va_G} {ad : Nat → Nat} {ci cj cz : ClassId} (τ : MS) (hs : τ.len ≤ 30) (ht : τ.tok ≤ 40) (hO : mOk τ) (hl : ∀ j, j < τ.len → τ.txt j < 4) : vMv l D (vTy ci cj cz) yX1_workText cX1_workText 2 4 [.ref (ad 0)] (mW ad ci cj cz τ) ad 10 (fun u => u = wText τ) (mW ad ci cj cz) := by
  refine vMv_of (by decide) (Nat.le_of_ble_eq_true rfl) mW_at ?_
  intro X C E
  have C : vC X cX1_workText RX1 2 (vTy ci cj cz) (vRm 4) ad 10 := C
  refine v_lv (lv' := [(0, .ref (ad 0))]) rfl ?_
  have L : ∀ i, i ≤ τ.len → vV X (mW ad ci cj cz (ms_row (ms_siz τ τ.len) (cpN τ.row τ.txt i))) 10 [(1, .int (nI i)), (0, .ref (ad 0))] [] := by
    refine lp_up (fun i hi ih => ?_)
    refine v_iload_n (pc := 10) C dX1_workText_10 rfl 0 rfl ?_
    refine v_aload_n (pc := 11) C dX1_workText_11 rfl 1 rfl ?_
    refine gms_len (pc := 12) (v := τ.len) C rfl dX1_workText_12 ?_
    refine v_icmp_geN (pc := 15) (tgt := 36) C dX1_workText_15 (by decide) (by omega) (by omega) (fun h15 => ?_) (fun h15 => ?_)
    · skip
      obtain rfl : i = τ.len := by omega
      refine v_aload_n (pc := 36) C dX1_workText_36 rfl 1 rfl ?_
      refine v_callv (pc := 37) C [] 0 (met_m_work (wRow τ) hs ht (mOk_row hO hl)) (lw_V q273 q275 qs15 q24 q276) (by decide +kernel) (by decide) (ci := 1) (q0 := 0) rfl rfl rfl rfl (Nat.le_of_ble_eq_true rfl) dX1_workText_37 (fun u hu => ?_)
      subst hu
      exact v_vret (pc := 40) C E (wText τ) rfl rfl dX1_workText_40
    · skip
      refine v_aload_n (pc := 18) C dX1_workText_18 rfl 1 rfl ?_
      refine gms_row (pc := 19) C dX1_workText_19 ?_
      refine v_iload_n (pc := 22) C dX1_workText_22 rfl 0 rfl ?_
      refine v_aload_n (pc := 23) C dX1_workText_23 rfl 1 rfl ?_
      refine gms_txt (pc := 24) C dX1_workText_24 ?_
      refine v_iload_n (pc := 27) C dX1_workText_27 rfl 0 rfl ?_
      refine lms_txt (pc := 28) (j := i) (v := τ.txt i) C rfl (by omega) dX1_workText_28 ?_
      refine sms_row (pc := 29) (j := i) (x := τ.txt i) C (by omega) dX1_workText_29 ?_
      refine v_iinc (pc := 30) C dX1_workText_30 0 rfl (v_inc i) (by decide) (lv' := [(1, .int (nI (i + 1))), (0, .ref (ad 0))]) rfl ?_
      refine v_goto (tgt := 10) (pc := 33) C dX1_workText_33 (by decide) ?_
      exact ih h15
  refine v_aload_n (pc := 0) C dX1_workText_0 rfl 0 rfl ?_
  refine v_aload_n (pc := 1) C dX1_workText_1 rfl 0 rfl ?_
  refine gms_len (pc := 2) (v := τ.len) C rfl dX1_workText_2 ?_
  refine pms_siz (pc := 5) (v := τ.len) C dX1_workText_5 ?_
  refine v_iconst (pc := 8) C dX1_workText_8 ci_0 ?_
  refine v_istore_n (pc := 9) C dX1_workText_9 rfl (by decide) (lv' := [(1, .int (nI 0)), (0, .ref (ad 0))]) rfl ?_
  exact L 0 (Nat.zero_le _)
end MS1
end
section
set_option maxRecDepth 100000
section MS1
/-- what is asked of the word number p: no without such a word, f of its beginning else -/
def srR (en : Nat → Nat) (len : Nat) (no : Int32) (f : Nat → Int32) (p r : Int32) : Prop :=
  (p < 0 ∧ r = no) ∨ ∃ c, c < 2 ^ 31 ∧ p = nI c ∧ (((∃ c', c' ≤ c ∧ len ≤ ats en c') ∧ r = no) ∨ ((∀ c', c' ≤ c → ats en c' < len) ∧ r = f (ats en c)))
theorem enM_gt (τ : MS) (i : Nat) : i < enM τ i := endF_gt _ _ _
theorem enM_le {τ : MS} {i : Nat} (h : i < τ.len) : enM τ i ≤ τ.len := by
  have := endF_le (gM τ i) i (τ.len - i) (by omega)
  show endF (gM τ i) i (τ.len - i) ≤ τ.len
  omega
set_option maxHeartbeats 4000000 in
theorem met_m_words {l : Launch} {D : va_G} {ad : Nat → Nat} {ci cj cz : ClassId} (τ : MS) (hs : τ.len ≤ 30) (ht : τ.tok ≤ 40) (hO : mOk τ) (hl : ∀ j, j < τ.len → τ.txt j < 4) (hr : τ.rul ≤ 5) (ho : ∀ r, r < τ.rul → τ.rof r < 40) : vMi l D (vTy ci cj cz) yX1_words cX1_words 3 (some .int) 5 [.ref (ad 0)] (mW ad ci cj cz τ) ad 10 (fun r u => u = wText τ ∧ ∃ c, r = nI c ∧ τ.len ≤ ats (enM (wText τ)) c ∧ ∀ c', c' < c → ats (enM (wText τ)) c' < τ.len) (mW ad ci cj cz) := by
  refine vMi_of (by decide) (Nat.le_of_ble_eq_true rfl) mW_at ?_
  intro X C E
  have C : vC X cX1_words RX1 3 (vTy ci cj cz) (vRm 5) ad 10 := C
  refine v_lv (lv' := [(0, .ref (ad 0))]) rfl ?_
  have L : ∀ n, n ≤ 30 → (∀ c, c < n → ats (enM (wText τ)) c < τ.len) → ats (enM (wText τ)) n ≤ 30 → vV X (mW ad ci cj cz (wText τ)) 8 [(2, .int (nI (ats (enM (wText τ)) n))), (1, .int (nI n)), (0, .ref (ad 0))] [] := by
    refine lp_up (fun n hn ih => ?_)
    intro hI h30
    have hge := ats_ge (enM_gt (wText τ)) n
    refine v_iload_n (pc := 8) C dX1_words_8 rfl 0 rfl ?_
    refine v_aload_n (pc := 9) C dX1_words_9 rfl 2 rfl ?_
    refine gms_len (pc := 10) (v := τ.len) C rfl dX1_words_10 ?_
    refine v_icmp_geN (pc := 13) (tgt := 34) C dX1_words_13 (by decide) (by omega) (by omega) (fun h13 => ?_) (fun h13 => ?_)
    · skip
      refine v_iload_n (pc := 34) C dX1_words_34 rfl 1 rfl ?_
      exact v_iret (pc := 35) C E (wText τ) rfl ⟨rfl, n, rfl, h13, hI⟩ dX1_words_35
    · skip
      refine v_iload_n (pc := 16) C dX1_words_16 rfl 1 rfl ?_
      refine v_bipush (pc := 17) C dX1_words_17 cb_30 ?_
      refine v_icmp_geN (pc := 19) (tgt := 34) C dX1_words_19 (by decide) (by omega) (by omega) (fun h19 => ?_) (fun h19 => ?_)
      · skip
        exact absurd h19 (by omega)
      · skip
        refine v_aload_n (pc := 22) C dX1_words_22 rfl 2 rfl ?_
        refine v_iload_n (pc := 23) C dX1_words_23 rfl 0 rfl ?_
        refine v_calli (pc := 24) C [.int (nI (ats (enM (wText τ)) n))] 1 (met_m_end (wText τ) (ats (enM (wText τ)) n) h13 hr ho hs) (lw_V q289 q291 qs19 q24 q292) (by decide +kernel) (by decide) (ci := 1) (q0 := 0) rfl rfl rfl rfl (Nat.le_of_ble_eq_true rfl) dX1_words_24 (fun r u hu => ?_)
        obtain ⟨rfl, hu⟩ := hu
        rw [hu]
        refine v_istore_n (pc := 27) C dX1_words_27 rfl (by decide) (lv' := [(2, .int (nI (ats (enM (wText τ)) (n + 1)))), (1, .int (nI n)), (0, .ref (ad 0))]) rfl ?_
        refine v_iinc (pc := 28) C dX1_words_28 1 rfl (v_inc n) (by decide) (lv' := [(1, .int (nI (n + 1))), (2, .int (nI (ats (enM (wText τ)) (n + 1)))), (0, .ref (ad 0))]) rfl ?_
        refine v_goto (tgt := 8) (pc := 31) C dX1_words_31 (by decide) ?_
        refine v_sub [1, 0, 2] rfl (ih (by omega) (fun c hc => ?_) (Nat.le_trans (enM_le (τ := wText τ) h13) hs))
        by_cases e : c = n
        · subst e; exact h13
        · exact hI c (by omega)
  refine v_aload_n (pc := 0) C dX1_words_0 rfl 0 rfl ?_
  refine v_callv (pc := 1) C [] 0 (met_m_workText τ hs ht hO hl) (lw_V q269 q271 qs14 q24 q272) (by decide +kernel) (by decide) (ci := 1) (q0 := 0) rfl rfl rfl rfl (Nat.le_of_ble_eq_true rfl) dX1_words_1 (fun u hu => ?_)
  subst hu
  refine v_iconst (pc := 4) C dX1_words_4 ci_0 ?_
  refine v_istore_n (pc := 5) C dX1_words_5 rfl (by decide) (lv' := [(1, .int (nI 0)), (0, .ref (ad 0))]) rfl ?_
  refine v_iconst (pc := 6) C dX1_words_6 ci_0 ?_
  refine v_istore_n (pc := 7) C dX1_words_7 rfl (by decide) (lv' := [(2, .int (nI 0)), (1, .int (nI 0)), (0, .ref (ad 0))]) rfl ?_
  exact L 0 (Nat.zero_le _) (fun c hc => absurd hc (by omega)) (Nat.zero_le _)
set_option maxHeartbeats 4000000 in
theorem met_m_begin {l : Launch} {D : va_G} {ad : Nat → Nat} {ci cj cz : ClassId} (τ : MS) (p : Int32) (hs : τ.len ≤ 30) (ht : τ.tok ≤ 40) (hO : mOk τ) (hl : ∀ j, j < τ.len → τ.txt j < 4) (hr : τ.rul ≤ 5) (ho : ∀ r, r < τ.rul → τ.rof r < 40) : vMi l D (vTy ci cj cz) yX1_begin cX1_begin 4 (some .int) 5 [.ref (ad 0), .int p] (mW ad ci cj cz τ) ad 10 (fun r u => u = wText τ ∧ srR (enM (wText τ)) τ.len (-1) nI p r) (mW ad ci cj cz) := by
  refine vMi_of (by decide) (Nat.le_of_ble_eq_true rfl) mW_at ?_
  intro X C E
  have C : vC X cX1_begin RX1 4 (vTy ci cj cz) (vRm 5) ad 10 := C
  refine v_lv (lv' := [(0, .ref (ad 0)), (1, .int p)]) rfl ?_
  refine v_aload_n (pc := 0) C dX1_begin_0 rfl 0 rfl ?_
  refine v_callv (pc := 1) C [] 0 (met_m_workText τ hs ht hO hl) (lw_V q269 q271 qs14 q24 q272) (by decide +kernel) (by decide) (ci := 1) (q0 := 0) rfl rfl rfl rfl (Nat.le_of_ble_eq_true rfl) dX1_begin_1 (fun u hu => ?_)
  subst hu
  refine v_iload_n (pc := 4) C dX1_begin_4 rfl 1 rfl ?_
  refine v_if_ge (pc := 5) (tgt := 10) C dX1_begin_5 (by decide) (fun h5 => ?_) (fun h5 => ?_)
  · skip
    obtain ⟨c, hc, rfl⟩ := nI_of (nn0.mpr h5)
    have L : ∀ n, n ≤ 30 → n ≤ c → (∀ c', c' < n → ats (enM (wText τ)) c' < τ.len) → ats (enM (wText τ)) n ≤ 30 → vV X (mW ad ci cj cz (wText τ)) 14 [(3, .int (nI n)), (2, .int (nI (ats (enM (wText τ)) n))), (0, .ref (ad 0)), (1, .int (nI c))] [] := by
      refine lp_up (fun n hn ih => ?_)
      intro hnc hI h30
      have hge := ats_ge (enM_gt (wText τ)) n
      refine v_iload_n (pc := 14) C dX1_begin_14 rfl 0 rfl ?_
      refine v_iload_n (pc := 15) C dX1_begin_15 rfl 3 rfl ?_
      refine v_icmp_geN (pc := 16) (tgt := 39) C dX1_begin_16 (by decide) (by omega) (by omega) (fun h16 => ?_) (fun h16 => ?_)
      · skip
        refine v_iload_n (pc := 39) C dX1_begin_39 rfl 1 rfl ?_
        refine v_aload_n (pc := 40) C dX1_begin_40 rfl 2 rfl ?_
        refine gms_len (pc := 41) (v := τ.len) C rfl dX1_begin_41 ?_
        refine v_icmp_geN (pc := 44) (tgt := 51) C dX1_begin_44 (by decide) (by omega) (by omega) (fun h44 => ?_) (fun h44 => ?_)
        · skip
          refine v_iconst (pc := 51) C dX1_begin_51 ci_m1 ?_
          exact v_iret (pc := 52) C E (wText τ) rfl ⟨rfl, Or.inr ⟨c, hc, rfl, Or.inl ⟨⟨n, hnc, h44⟩, rfl⟩⟩⟩ dX1_begin_52
        · skip
          refine v_iload_n (pc := 47) C dX1_begin_47 rfl 1 rfl ?_
          refine v_goto (tgt := 52) (pc := 48) C dX1_begin_48 (by decide) ?_
          obtain rfl : n = c := by omega
          exact v_iret (pc := 52) C E (wText τ) rfl ⟨rfl, Or.inr ⟨n, hc, rfl, Or.inr ⟨fun c' h => if e : c' = n then by rw [e]; exact h44 else hI c' (by omega), rfl⟩⟩⟩ dX1_begin_52
      · skip
        refine v_iload_n (pc := 19) C dX1_begin_19 rfl 1 rfl ?_
        refine v_aload_n (pc := 20) C dX1_begin_20 rfl 2 rfl ?_
        refine gms_len (pc := 21) (v := τ.len) C rfl dX1_begin_21 ?_
        refine v_icmp_geN (pc := 24) (tgt := 39) C dX1_begin_24 (by decide) (by omega) (by omega) (fun h24 => ?_) (fun h24 => ?_)
        · skip
          refine v_iload_n (pc := 39) C dX1_begin_39 rfl 1 rfl ?_
          refine v_aload_n (pc := 40) C dX1_begin_40 rfl 2 rfl ?_
          refine gms_len (pc := 41) (v := τ.len) C rfl dX1_begin_41 ?_
          refine v_icmp_geN (pc := 44) (tgt := 51) C dX1_begin_44 (by decide) (by omega) (by omega) (fun h44 => ?_) (fun h44 => ?_)
          · skip
            refine v_iconst (pc := 51) C dX1_begin_51 ci_m1 ?_
            exact v_iret (pc := 52) C E (wText τ) rfl ⟨rfl, Or.inr ⟨c, hc, rfl, Or.inl ⟨⟨n, hnc, h44⟩, rfl⟩⟩⟩ dX1_begin_52
          · skip
            refine v_iload_n (pc := 47) C dX1_begin_47 rfl 1 rfl ?_
            refine v_goto (tgt := 52) (pc := 48) C dX1_begin_48 (by decide) ?_
            obtain rfl : n = c := by omega
            exact v_iret (pc := 52) C E (wText τ) rfl ⟨rfl, Or.inr ⟨n, hc, rfl, Or.inr ⟨fun c' h => if e : c' = n then by rw [e]; exact h44 else hI c' (by omega), rfl⟩⟩⟩ dX1_begin_52
        · skip
          refine v_aload_n (pc := 27) C dX1_begin_27 rfl 2 rfl ?_
          refine v_iload_n (pc := 28) C dX1_begin_28 rfl 1 rfl ?_
          refine v_calli (pc := 29) C [.int (nI (ats (enM (wText τ)) n))] 1 (met_m_end (wText τ) (ats (enM (wText τ)) n) h24 hr ho hs) (lw_V q289 q291 qs19 q24 q292) (by decide +kernel) (by decide) (ci := 1) (q0 := 0) rfl rfl rfl rfl (Nat.le_of_ble_eq_true rfl) dX1_begin_29 (fun r u hu => ?_)
          obtain ⟨rfl, hu⟩ := hu
          rw [hu]
          refine v_istore_n (pc := 32) C dX1_begin_32 rfl (by decide) (lv' := [(2, .int (nI (ats (enM (wText τ)) (n + 1)))), (3, .int (nI n)), (0, .ref (ad 0)), (1, .int (nI c))]) rfl ?_
          refine v_iinc (pc := 33) C dX1_begin_33 1 rfl (v_inc n) (by decide) (lv' := [(3, .int (nI (n + 1))), (2, .int (nI (ats (enM (wText τ)) (n + 1)))), (0, .ref (ad 0)), (1, .int (nI c))]) rfl ?_
          refine v_goto (tgt := 14) (pc := 36) C dX1_begin_36 (by decide) ?_
          refine v_sub [0, 1, 2, 3] rfl (ih (by omega) h16 (fun c hc => ?_) (Nat.le_trans (enM_le (τ := wText τ) h24) hs))
          by_cases e : c = n
          · subst e; exact h24
          · exact hI c (by omega)
    refine v_iconst (pc := 10) C dX1_begin_10 ci_0 ?_
    refine v_istore_n (pc := 11) C dX1_begin_11 rfl (by decide) (lv' := [(2, .int (nI 0)), (0, .ref (ad 0)), (1, .int (nI c))]) rfl ?_
    refine v_iconst (pc := 12) C dX1_begin_12 ci_0 ?_
    refine v_istore_n (pc := 13) C dX1_begin_13 rfl (by decide) (lv' := [(3, .int (nI 0)), (2, .int (nI 0)), (0, .ref (ad 0)), (1, .int (nI c))]) rfl ?_
    exact L 0 (Nat.zero_le _) (Nat.zero_le _) (fun c hc => absurd hc (by omega)) (Nat.zero_le _)
  · skip
    refine v_iconst (pc := 8) C dX1_begin_8 ci_m1 ?_
    exact v_iret (pc := 9) C E (wText τ) rfl ⟨rfl, Or.inl ⟨nle_lt h5, rfl⟩⟩ dX1_begin_9
set_option maxHeartbeats 4000000 in
theorem met_m_sort {l : Launch} {D : va_G} {ad : Nat → Nat} {ci cj cz : ClassId} (τ : MS) (p : Int32) (hs : τ.len ≤ 30) (ht : τ.tok ≤ 40) (hO : mOk τ) (hl : ∀ j, j < τ.len → τ.txt j < 4) (hr : τ.rul ≤ 5) (ho : ∀ r, r < τ.rul → τ.rof r < 40) : vMi l D (vTy ci cj cz) yX1_sort cX1_sort 4 (some .int) 6 [.ref (ad 0), .int p] (mW ad ci cj cz τ) ad 10 (fun r u => u = wText τ ∧ srR (enM (wText τ)) τ.len (-2) (fun a => gM (wText τ) a (enM (wText τ) a)) p r) (mW ad ci cj cz) := by
  refine vMi_of (by decide) (Nat.le_of_ble_eq_true rfl) mW_at ?_
  intro X C E
  have C : vC X cX1_sort RX1 4 (vTy ci cj cz) (vRm 6) ad 10 := C
  refine v_lv (lv' := [(0, .ref (ad 0)), (1, .int p)]) rfl ?_
  refine v_aload_n (pc := 0) C dX1_sort_0 rfl 0 rfl ?_
  refine v_iload_n (pc := 1) C dX1_sort_1 rfl 1 rfl ?_
  refine v_calli (pc := 2) C [.int p] 1 (met_m_begin τ p hs ht hO hl hr ho) (lw_V q301 q303 qs21 q24 q304) (by decide +kernel) (by decide) (ci := 1) (q0 := 0) rfl rfl rfl rfl (Nat.le_of_ble_eq_true rfl) dX1_sort_2 (fun r u hu => ?_)
  obtain ⟨hu, hu2⟩ := hu
  rw [hu]
  rcases hu2 with ⟨hp0, rfl⟩ | ⟨c, hc, hpc, ⟨hno, rfl⟩ | ⟨hyes, rfl⟩⟩
  · skip
    refine v_istore_n (pc := 5) C dX1_sort_5 rfl (by decide) (lv' := [(2, .int (-1)), (0, .ref (ad 0)), (1, .int p)]) rfl ?_
    refine v_iload_n (pc := 6) C dX1_sort_6 rfl 0 rfl ?_
    refine v_if_ge (pc := 7) (tgt := 13) C dX1_sort_7 (by decide) (fun h7 => ?_) (fun h7 => ?_)
    · skip
      exact absurd h7 (by decide)
    · skip
      refine v_bipush (pc := 10) C dX1_sort_10 cb_m2 ?_
      exact v_iret (pc := 12) C E (wText τ) rfl ⟨rfl, Or.inl ⟨hp0, rfl⟩⟩ dX1_sort_12
  · skip
    refine v_istore_n (pc := 5) C dX1_sort_5 rfl (by decide) (lv' := [(2, .int (-1)), (0, .ref (ad 0)), (1, .int p)]) rfl ?_
    refine v_iload_n (pc := 6) C dX1_sort_6 rfl 0 rfl ?_
    refine v_if_ge (pc := 7) (tgt := 13) C dX1_sort_7 (by decide) (fun h7 => ?_) (fun h7 => ?_)
    · skip
      exact absurd h7 (by decide)
    · skip
      refine v_bipush (pc := 10) C dX1_sort_10 cb_m2 ?_
      exact v_iret (pc := 12) C E (wText τ) rfl ⟨rfl, Or.inr ⟨c, hc, hpc, Or.inl ⟨hno, rfl⟩⟩⟩ dX1_sort_12
  · skip
    have hA := hyes c (Nat.le_refl _)
    have hE := enM_le (τ := wText τ) hA
    have hE : enM (wText τ) (ats (enM (wText τ)) c) ≤ τ.len := hE
    have hG := enM_gt (wText τ) (ats (enM (wText τ)) c)
    refine v_istore_n (pc := 5) C dX1_sort_5 rfl (by decide) (lv' := [(2, .int (nI (ats (enM (wText τ)) c))), (0, .ref (ad 0)), (1, .int p)]) rfl ?_
    refine v_iload_n (pc := 6) C dX1_sort_6 rfl 0 rfl ?_
    refine v_if_ge (pc := 7) (tgt := 13) C dX1_sort_7 (by decide) (fun h7 => ?_) (fun h7 => ?_)
    · skip
      refine v_aload_n (pc := 13) C dX1_sort_13 rfl 1 rfl ?_
      refine v_iload_n (pc := 14) C dX1_sort_14 rfl 0 rfl ?_
      refine v_calli (pc := 15) C [.int (nI (ats (enM (wText τ)) c))] 1 (met_m_end (wText τ) (ats (enM (wText τ)) c) hA hr ho hs) (lw_V q289 q291 qs19 q24 q292) (by decide +kernel) (by decide) (ci := 1) (q0 := 0) rfl rfl rfl rfl (Nat.le_of_ble_eq_true rfl) dX1_sort_15 (fun r u hu => ?_)
      obtain ⟨rfl, hu⟩ := hu
      rw [hu]
      refine v_istore_n (pc := 18) C dX1_sort_18 rfl (by decide) (lv' := [(3, .int (nI (enM (wText τ) (ats (enM (wText τ)) c)))), (2, .int (nI (ats (enM (wText τ)) c))), (0, .ref (ad 0)), (1, .int p)]) rfl ?_
      refine v_aload_n (pc := 19) C dX1_sort_19 rfl 2 rfl ?_
      refine v_iload_n (pc := 20) C dX1_sort_20 rfl 1 rfl ?_
      refine v_iload_n (pc := 21) C dX1_sort_21 rfl 0 rfl ?_
      refine v_calli (pc := 22) C [.int (nI (ats (enM (wText τ)) c)), .int (nI (enM (wText τ) (ats (enM (wText τ)) c)))] 2 (met_m_least (wText τ) (ats (enM (wText τ)) c) (enM (wText τ) (ats (enM (wText τ)) c)) hr (by omega) (by omega) ho) (lw_V q293 q295 qs20 q24 q296) (by decide +kernel) (by decide) (ci := 1) (q0 := 0) rfl rfl rfl rfl (Nat.le_of_ble_eq_true rfl) dX1_sort_22 (fun r u hu => ?_)
      obtain ⟨rfl, hu⟩ := hu
      rw [hu]
      exact v_iret (pc := 25) C E (wText τ) rfl ⟨rfl, Or.inr ⟨c, hc, hpc, Or.inr ⟨hyes, rfl⟩⟩⟩ dX1_sort_25
    · skip
      exact absurd (nI_pos' (by omega)) h7
set_option maxHeartbeats 4000000 in
theorem met_m_length {l : Launch} {D : va_G} {ad : Nat → Nat} {ci cj cz : ClassId} (τ : MS) (p : Int32) (hs : τ.len ≤ 30) (ht : τ.tok ≤ 40) (hO : mOk τ) (hl : ∀ j, j < τ.len → τ.txt j < 4) (hr : τ.rul ≤ 5) (ho : ∀ r, r < τ.rul → τ.rof r < 40) : vMi l D (vTy ci cj cz) yX1_length cX1_length 3 (some .int) 6 [.ref (ad 0), .int p] (mW ad ci cj cz τ) ad 10 (fun r u => u = wText τ ∧ srR (enM (wText τ)) τ.len 0 (fun a => nI (enM (wText τ) a - a)) p r) (mW ad ci cj cz) := by
  refine vMi_of (by decide) (Nat.le_of_ble_eq_true rfl) mW_at ?_
  intro X C E
  have C : vC X cX1_length RX1 3 (vTy ci cj cz) (vRm 6) ad 10 := C
  refine v_lv (lv' := [(0, .ref (ad 0)), (1, .int p)]) rfl ?_
  refine v_aload_n (pc := 0) C dX1_length_0 rfl 0 rfl ?_
  refine v_iload_n (pc := 1) C dX1_length_1 rfl 1 rfl ?_
  refine v_calli (pc := 2) C [.int p] 1 (met_m_begin τ p hs ht hO hl hr ho) (lw_V q301 q303 qs21 q24 q304) (by decide +kernel) (by decide) (ci := 1) (q0 := 0) rfl rfl rfl rfl (Nat.le_of_ble_eq_true rfl) dX1_length_2 (fun r u hu => ?_)
  obtain ⟨hu, hu2⟩ := hu
  rw [hu]
  rcases hu2 with ⟨hp0, rfl⟩ | ⟨c, hc, hpc, ⟨hno, rfl⟩ | ⟨hyes, rfl⟩⟩
  · skip
    refine v_istore_n (pc := 5) C dX1_length_5 rfl (by decide) (lv' := [(2, .int (-1)), (0, .ref (ad 0)), (1, .int p)]) rfl ?_
    refine v_iload_n (pc := 6) C dX1_length_6 rfl 0 rfl ?_
    refine v_if_ge (pc := 7) (tgt := 14) C dX1_length_7 (by decide) (fun h7 => ?_) (fun h7 => ?_)
    · skip
      exact absurd h7 (by decide)
    · skip
      refine v_iconst (pc := 10) C dX1_length_10 ci_0 ?_
      refine v_goto (tgt := 21) (pc := 11) C dX1_length_11 (by decide) ?_
      exact v_iret (pc := 21) C E (wText τ) rfl ⟨rfl, Or.inl ⟨hp0, rfl⟩⟩ dX1_length_21
  · skip
    refine v_istore_n (pc := 5) C dX1_length_5 rfl (by decide) (lv' := [(2, .int (-1)), (0, .ref (ad 0)), (1, .int p)]) rfl ?_
    refine v_iload_n (pc := 6) C dX1_length_6 rfl 0 rfl ?_
    refine v_if_ge (pc := 7) (tgt := 14) C dX1_length_7 (by decide) (fun h7 => ?_) (fun h7 => ?_)
    · skip
      exact absurd h7 (by decide)
    · skip
      refine v_iconst (pc := 10) C dX1_length_10 ci_0 ?_
      refine v_goto (tgt := 21) (pc := 11) C dX1_length_11 (by decide) ?_
      exact v_iret (pc := 21) C E (wText τ) rfl ⟨rfl, Or.inr ⟨c, hc, hpc, Or.inl ⟨hno, rfl⟩⟩⟩ dX1_length_21
  · skip
    have hA := hyes c (Nat.le_refl _)
    have hE := enM_le (τ := wText τ) hA
    have hE : enM (wText τ) (ats (enM (wText τ)) c) ≤ τ.len := hE
    have hG := enM_gt (wText τ) (ats (enM (wText τ)) c)
    refine v_istore_n (pc := 5) C dX1_length_5 rfl (by decide) (lv' := [(2, .int (nI (ats (enM (wText τ)) c))), (0, .ref (ad 0)), (1, .int p)]) rfl ?_
    refine v_iload_n (pc := 6) C dX1_length_6 rfl 0 rfl ?_
    refine v_if_ge (pc := 7) (tgt := 14) C dX1_length_7 (by decide) (fun h7 => ?_) (fun h7 => ?_)
    · skip
      refine v_aload_n (pc := 14) C dX1_length_14 rfl 1 rfl ?_
      refine v_iload_n (pc := 15) C dX1_length_15 rfl 0 rfl ?_
      refine v_calli (pc := 16) C [.int (nI (ats (enM (wText τ)) c))] 1 (met_m_end (wText τ) (ats (enM (wText τ)) c) hA hr ho hs) (lw_V q289 q291 qs19 q24 q292) (by decide +kernel) (by decide) (ci := 1) (q0 := 0) rfl rfl rfl rfl (Nat.le_of_ble_eq_true rfl) dX1_length_16 (fun r u hu => ?_)
      obtain ⟨rfl, hu⟩ := hu
      rw [hu]
      refine v_iload_n (pc := 19) C dX1_length_19 rfl 0 rfl ?_
      refine v_isubN (pc := 20) C dX1_length_20 (by omega) ?_
      exact v_iret (pc := 21) C E (wText τ) rfl ⟨rfl, Or.inr ⟨c, hc, hpc, Or.inr ⟨hyes, rfl⟩⟩⟩ dX1_length_21
    · skip
      exact absurd (nI_pos' (by omega)) h7
set_option maxHeartbeats 4000000 in
theorem met_m_matches {l : Launch} {D : va_G} {ad : Nat → Nat} {ci cj cz : ClassId} (τ : MS) (p : Int32) (hs : τ.len ≤ 30) (ht : τ.tok ≤ 40) (hO : mOk τ) (hl : ∀ j, j < τ.len → τ.txt j < 4) (hr : τ.rul ≤ 5) (ho : ∀ r, r < τ.rul → τ.rof r < 40) : vMi l D (vTy ci cj cz) yX1_matches cX1_matches 2 (some .int) 5 [.ref (ad 0), .int p] (mW ad ci cj cz τ) ad 10 (fun r u => r = bOf τ.rul (fun r => (wText τ).fit (ix (τ.rof r) 0 τ.len)) p ∧ (u = τ ∨ u = wText τ)) (mW ad ci cj cz) := by
  refine vMi_of (by decide) (Nat.le_of_ble_eq_true rfl) mW_at ?_
  intro X C E
  have C : vC X cX1_matches RX1 2 (vTy ci cj cz) (vRm 5) ad 10 := C
  refine v_lv (lv' := [(0, .ref (ad 0)), (1, .int p)]) rfl ?_
  by_cases hb : p < 0 ∨ nI τ.rul ≤ p
  · skip
    refine v_iload_n (pc := 0) C dX1_matches_0 rfl 1 rfl ?_
    refine v_if_lt (pc := 1) (tgt := 12) C dX1_matches_1 (by decide) (fun h1 => ?_) (fun h1 => ?_)
    · skip
      refine v_iconst (pc := 12) C dX1_matches_12 ci_m1 ?_
      exact v_iret (pc := 13) C E τ rfl ⟨(if_pos hb).symm, Or.inl rfl⟩ dX1_matches_13
    · skip
      refine v_iload_n (pc := 4) C dX1_matches_4 rfl 1 rfl ?_
      refine v_aload_n (pc := 5) C dX1_matches_5 rfl 0 rfl ?_
      refine gms_rul (pc := 6) (v := τ.rul) C rfl dX1_matches_6 ?_
      refine v_icmp_lt (pc := 9) (tgt := 14) C dX1_matches_9 (by decide) (fun h9 => ?_) (fun h9 => ?_)
      · skip
        exact absurd hb (fun z => z.elim h1 (fun z => le_nlt z h9))
      · skip
        refine v_iconst (pc := 12) C dX1_matches_12 ci_m1 ?_
        exact v_iret (pc := 13) C E τ rfl ⟨(if_pos hb).symm, Or.inl rfl⟩ dX1_matches_13
  · obtain ⟨j, rfl, hj⟩ := ru_good hr hb
    have hoj := ho j hj
    refine v_iload_n (pc := 0) C dX1_matches_0 rfl 1 rfl ?_
    refine v_if_lt (pc := 1) (tgt := 12) C dX1_matches_1 (by decide) (fun h1 => ?_) (fun h1 => ?_)
    · skip
      exact absurd h1 (nI_pos (by omega))
    · skip
      refine v_iload_n (pc := 4) C dX1_matches_4 rfl 1 rfl ?_
      refine v_aload_n (pc := 5) C dX1_matches_5 rfl 0 rfl ?_
      refine gms_rul (pc := 6) (v := τ.rul) C rfl dX1_matches_6 ?_
      refine v_icmp_ltN (pc := 9) (tgt := 14) C dX1_matches_9 (by decide) (by omega) (by omega) (fun h9 => ?_) (fun h9 => ?_)
      · skip
        refine v_aload_n (pc := 14) C dX1_matches_14 rfl 0 rfl ?_
        refine v_callv (pc := 15) C [] 0 (met_m_workText τ hs ht hO hl) (lw_V q269 q271 qs14 q24 q272) (by decide +kernel) (by decide) (ci := 1) (q0 := 0) rfl rfl rfl rfl (Nat.le_of_ble_eq_true rfl) dX1_matches_15 (fun u hu => ?_)
        subst hu
        refine v_aload_n (pc := 18) C dX1_matches_18 rfl 0 rfl ?_
        refine v_aload_n (pc := 19) C dX1_matches_19 rfl 0 rfl ?_
        refine gms_rof (pc := 20) C dX1_matches_20 ?_
        refine v_iload_n (pc := 23) C dX1_matches_23 rfl 1 rfl ?_
        refine lms_rof (pc := 24) (j := j) (v := τ.rof j) C rfl (by omega) dX1_matches_24 ?_
        refine v_iconst (pc := 25) C dX1_matches_25 ci_0 ?_
        refine v_aload_n (pc := 26) C dX1_matches_26 rfl 0 rfl ?_
        refine gms_len (pc := 27) (v := τ.len) C rfl dX1_matches_27 ?_
        refine v_calli (pc := 30) C [.int (nI (τ.rof j)), .int (nI 0), .int (nI τ.len)] 3 (met_m_is (wText τ) (τ.rof j) 0 τ.len hoj (Nat.zero_le _) hs) (lw_V q285 q287 qs18 q24 q288) (by decide +kernel) (by decide) (ci := 1) (q0 := 0) rfl rfl rfl rfl (Nat.le_of_ble_eq_true rfl) dX1_matches_30 (fun r u hu => ?_)
        obtain ⟨rfl, hu⟩ := hu
        rw [hu]
        refine v_if_eqB (pc := 33) (tgt := 40) C dX1_matches_33 (by decide) (fun h33 => ?_) (fun h33 => ?_)
        · skip
          refine v_iconst (pc := 40) C dX1_matches_40 cz_0 ?_
          exact v_iret (pc := 41) C E (wText τ) rfl ⟨by rw [bOf, if_neg hb, nI_clamp (by omega), h33], Or.inr rfl⟩ dX1_matches_41
        · skip
          refine v_iconst (pc := 36) C dX1_matches_36 cz_1 ?_
          refine v_goto (tgt := 41) (pc := 37) C dX1_matches_37 (by decide) ?_
          exact v_iret (pc := 41) C E (wText τ) rfl ⟨by rw [bOf, if_neg hb, nI_clamp (by omega), h33], Or.inr rfl⟩ dX1_matches_41
      · skip
        exact absurd h9 (by omega)
set_option maxHeartbeats 4000000 in
theorem met_m_sortOf {l : Launch} {D : va_G} {ad : Nat → Nat} {ci cj cz : ClassId} (τ : MS) (p q : Int32) (hs : τ.len ≤ 30) (ht : τ.tok ≤ 40) (hO : mOk τ) (hl : ∀ j, j < τ.len → τ.txt j < 4) (hr : τ.rul ≤ 5) (ho : ∀ r, r < τ.rul → τ.rof r < 40) : vMi l D (vTy ci cj cz) yX1_sortOf cX1_sortOf 3 (some .int) 5 [.ref (ad 0), .int p, .int q] (mW ad ci cj cz τ) ad 10 (fun r u => r = sOf (gM (wText τ)) τ.len p q ∧ (u = τ ∨ u = wText τ)) (mW ad ci cj cz) := by
  refine vMi_of (by decide) (Nat.le_of_ble_eq_true rfl) mW_at ?_
  intro X C E
  have C : vC X cX1_sortOf RX1 3 (vTy ci cj cz) (vRm 5) ad 10 := C
  refine v_lv (lv' := [(0, .ref (ad 0)), (1, .int p), (2, .int q)]) rfl ?_
  by_cases hb : p < 0 ∨ q < p ∨ nI τ.len < q
  · skip
    refine v_iload_n (pc := 0) C dX1_sortOf_0 rfl 1 rfl ?_
    refine v_if_lt (pc := 1) (tgt := 17) C dX1_sortOf_1 (by decide) (fun h1 => ?_) (fun h1 => ?_)
    · skip
      refine v_bipush (pc := 17) C dX1_sortOf_17 cb_m2 ?_
      exact v_iret (pc := 19) C E τ rfl ⟨(if_pos hb).symm, Or.inl rfl⟩ dX1_sortOf_19
    · skip
      refine v_iload_n (pc := 4) C dX1_sortOf_4 rfl 2 rfl ?_
      refine v_iload_n (pc := 5) C dX1_sortOf_5 rfl 1 rfl ?_
      refine v_icmp_lt (pc := 6) (tgt := 17) C dX1_sortOf_6 (by decide) (fun h6 => ?_) (fun h6 => ?_)
      · skip
        refine v_bipush (pc := 17) C dX1_sortOf_17 cb_m2 ?_
        exact v_iret (pc := 19) C E τ rfl ⟨(if_pos hb).symm, Or.inl rfl⟩ dX1_sortOf_19
      · skip
        refine v_iload_n (pc := 9) C dX1_sortOf_9 rfl 2 rfl ?_
        refine v_aload_n (pc := 10) C dX1_sortOf_10 rfl 0 rfl ?_
        refine gms_len (pc := 11) (v := τ.len) C rfl dX1_sortOf_11 ?_
        refine v_icmp_le (pc := 14) (tgt := 20) C dX1_sortOf_14 (by decide) (fun h14 => ?_) (fun h14 => ?_)
        · skip
          exact absurd hb (fun z => z.elim h1 (fun z => z.elim h6 (fun z => le_nlt h14 z)))
        · skip
          refine v_bipush (pc := 17) C dX1_sortOf_17 cb_m2 ?_
          exact v_iret (pc := 19) C E τ rfl ⟨(if_pos hb).symm, Or.inl rfl⟩ dX1_sortOf_19
  · obtain ⟨i, j, rfl, rfl, hij, hj⟩ := so_good hs hb
    refine v_iload_n (pc := 0) C dX1_sortOf_0 rfl 1 rfl ?_
    refine v_if_lt (pc := 1) (tgt := 17) C dX1_sortOf_1 (by decide) (fun h1 => ?_) (fun h1 => ?_)
    · skip
      exact absurd h1 (nI_pos (by omega))
    · skip
      refine v_iload_n (pc := 4) C dX1_sortOf_4 rfl 2 rfl ?_
      refine v_iload_n (pc := 5) C dX1_sortOf_5 rfl 1 rfl ?_
      refine v_icmp_ltN (pc := 6) (tgt := 17) C dX1_sortOf_6 (by decide) (by omega) (by omega) (fun h6 => ?_) (fun h6 => ?_)
      · skip
        exact absurd h6 (by omega)
      · skip
        refine v_iload_n (pc := 9) C dX1_sortOf_9 rfl 2 rfl ?_
        refine v_aload_n (pc := 10) C dX1_sortOf_10 rfl 0 rfl ?_
        refine gms_len (pc := 11) (v := τ.len) C rfl dX1_sortOf_11 ?_
        refine v_icmp_leN (pc := 14) (tgt := 20) C dX1_sortOf_14 (by decide) (by omega) (by omega) (fun h14 => ?_) (fun h14 => ?_)
        · skip
          refine v_aload_n (pc := 20) C dX1_sortOf_20 rfl 0 rfl ?_
          refine v_callv (pc := 21) C [] 0 (met_m_workText τ hs ht hO hl) (lw_V q269 q271 qs14 q24 q272) (by decide +kernel) (by decide) (ci := 1) (q0 := 0) rfl rfl rfl rfl (Nat.le_of_ble_eq_true rfl) dX1_sortOf_21 (fun u hu => ?_)
          subst hu
          refine v_aload_n (pc := 24) C dX1_sortOf_24 rfl 0 rfl ?_
          refine v_iload_n (pc := 25) C dX1_sortOf_25 rfl 1 rfl ?_
          refine v_iload_n (pc := 26) C dX1_sortOf_26 rfl 2 rfl ?_
          refine v_calli (pc := 27) C [.int (nI i), .int (nI j)] 2 (met_m_least (wText τ) i j hr (by omega) (by omega) ho) (lw_V q293 q295 qs20 q24 q296) (by decide +kernel) (by decide) (ci := 1) (q0 := 0) rfl rfl rfl rfl (Nat.le_of_ble_eq_true rfl) dX1_sortOf_27 (fun r u hu => ?_)
          obtain ⟨rfl, hu⟩ := hu
          rw [hu]
          exact v_iret (pc := 30) C E (wText τ) rfl ⟨by rw [sOf, if_neg hb, nI_clamp (by omega), nI_clamp (by omega)], Or.inr rfl⟩ dX1_sortOf_30
        · skip
          exact absurd h14 (by omega)
def dgF (f : Nat → Nat) (w : Nat) : Nat → Nat → Nat
  | 0 => f
  | n + 1 => upN (dgF f w n) n (dig w n)
theorem dgF_at (f : Nat → Nat) (w a : Nat) : ∀ n, dgF f w n a = if a < n then dig w a else f a := by
  intro n
  induction n with
  | zero => rw [if_neg (by omega)]; rfl
  | succ n ih =>
    show upN (dgF f w n) n (dig w n) a = _
    by_cases h : a = n
    · subst h
      rw [upN_s, if_pos (by omega)]
    · rw [upN_n h, ih]
      by_cases q : a < n
      · rw [if_pos q, if_pos (by omega)]
      · rw [if_neg q, if_neg (by omega)]
/-- the model with that row and that table of pieces -/
abbrev mRw (τ : MS) (n : Nat) (r : Nat → Nat) (f : Nat → Bool) : MS := ms_fit (ms_row (ms_siz τ n) r) f
set_option maxHeartbeats 4000000 in
theorem met_m_count {l : Launch} {D : va_G} {ad : Nat → Nat} {ci cj cz : ClassId} (τ : MS) (b : Nat → Nat → Nat → Bool) (hbf : ∀ j n w r f, j < τ.rul → n ≤ 4 → (∀ k, k < n → r k = dig w k) → wkT (mRw τ n r f) τ.tok (ix (τ.rof j) 0 n) = b j n w) (p q : Int32) (ht : τ.tok ≤ 40) (hO : mOk τ) (hr : τ.rul ≤ 5) (ho : ∀ r, r < τ.rul → τ.rof r < 40) : vMi l D (vTy ci cj cz) yX1_count cX1_count 7 (some .int) 4 [.ref (ad 0), .int p, .int q] (mW ad ci cj cz τ) ad 10 (fun z u => z = cOf τ.rul b p q ∧ (u = τ ∨ ∃ n r f, (∀ k, k < 30 → r k < 4) ∧ u = mRw τ n r f)) (mW ad ci cj cz) := by
  refine vMi_of (by decide) (Nat.le_of_ble_eq_true rfl) mW_at ?_
  intro X C E
  have C : vC X cX1_count RX1 7 (vTy ci cj cz) (vRm 4) ad 10 := C
  refine v_lv (lv' := [(0, .ref (ad 0)), (1, .int p), (2, .int q)]) rfl ?_
  by_cases hb : p < 0 ∨ nI τ.rul ≤ p ∨ q < 0 ∨ nI 4 < q
  · skip
    refine v_iload_n (pc := 0) C dX1_count_0 rfl 1 rfl ?_
    refine v_if_lt (pc := 1) (tgt := 21) C dX1_count_1 (by decide) (fun h1 => ?_) (fun h1 => ?_)
    · skip
      refine v_iconst (pc := 21) C dX1_count_21 ci_m1 ?_
      exact v_iret (pc := 22) C E τ rfl ⟨(if_pos hb).symm, Or.inl rfl⟩ dX1_count_22
    · skip
      refine v_iload_n (pc := 4) C dX1_count_4 rfl 1 rfl ?_
      refine v_aload_n (pc := 5) C dX1_count_5 rfl 0 rfl ?_
      refine gms_rul (pc := 6) (v := τ.rul) C rfl dX1_count_6 ?_
      refine v_icmp_ge (pc := 9) (tgt := 21) C dX1_count_9 (by decide) (fun h9 => ?_) (fun h9 => ?_)
      · skip
        refine v_iconst (pc := 21) C dX1_count_21 ci_m1 ?_
        exact v_iret (pc := 22) C E τ rfl ⟨(if_pos hb).symm, Or.inl rfl⟩ dX1_count_22
      · skip
        refine v_iload_n (pc := 12) C dX1_count_12 rfl 2 rfl ?_
        refine v_if_lt (pc := 13) (tgt := 21) C dX1_count_13 (by decide) (fun h13 => ?_) (fun h13 => ?_)
        · skip
          refine v_iconst (pc := 21) C dX1_count_21 ci_m1 ?_
          exact v_iret (pc := 22) C E τ rfl ⟨(if_pos hb).symm, Or.inl rfl⟩ dX1_count_22
        · skip
          refine v_iload_n (pc := 16) C dX1_count_16 rfl 2 rfl ?_
          refine v_iconst (pc := 17) C dX1_count_17 ci_4 ?_
          refine v_icmp_le (pc := 18) (tgt := 23) C dX1_count_18 (by decide) (fun h18 => ?_) (fun h18 => ?_)
          · skip
            exact absurd hb (fun z => z.elim h1 (fun z => z.elim h9 (fun z => z.elim h13 (fun z => le_nlt h18 z))))
          · skip
            refine v_iconst (pc := 21) C dX1_count_21 ci_m1 ?_
            exact v_iret (pc := 22) C E τ rfl ⟨(if_pos hb).symm, Or.inl rfl⟩ dX1_count_22
  · obtain ⟨j, n, rfl, rfl, hj, hn⟩ := co_good hr hb
    have hoj := ho j hj
    have h4 := p4 n hn
    have hcl : cOf τ.rul b (nI j) (nI n) = nI (cntF (fun w => b j n w) (4 ^ n)) := by rw [cOf, if_neg hb, nI_clamp (by omega), nI_clamp (by omega)]
    have L : ∀ v, v ≤ 4 ^ n → ∀ (r : Nat → Nat) (f : Nat → Bool), (∀ k, k < 30 → r k < 4) → vV X (mW ad ci cj cz (mRw τ n r f)) 40 [(5, .int (nI v)), (4, .int (nI (4 ^ n))), (3, .int (nI (cntF (fun w => b j n w) v))), (0, .ref (ad 0)), (1, .int (nI j)), (2, .int (nI n))] [] := by
      refine lp_up (fun v hv ih => ?_)
      intro r f hrr
      have hcv := cntF_le (fun w => b j n w) v
      have L2 : v < 4 ^ n → ∀ i, i ≤ n → vV X (mW ad ci cj cz (mRw τ n (dgF r v i) f)) 50 [(6, .int (nI i)), (5, .int (nI v)), (4, .int (nI (4 ^ n))), (3, .int (nI (cntF (fun w => b j n w) v))), (0, .ref (ad 0)), (1, .int (nI j)), (2, .int (nI n))] [] := by
        intro hv2
        refine lp_up (fun i hi ih2 => ?_)
        refine v_iload (pc := 50) C dX1_count_50 0 rfl ?_
        refine v_iload_n (pc := 52) C dX1_count_52 rfl 6 rfl ?_
        refine v_icmp_geN (pc := 53) (tgt := 78) C dX1_count_53 (by decide) (by omega) (by omega) (fun h53 => ?_) (fun h53 => ?_)
        · skip
          obtain rfl : n = i := by omega
          have hr2 : ∀ k, k < 30 → dgF r v n k < 4 := fun k hk => by rw [dgF_at]; split; exact dig_lt _ _; exact hrr k hk
          have hO2 : mOk (mRw τ n (dgF r v n) f) := ⟨hO.1, hr2⟩
          refine v_aload_n (pc := 78) C dX1_count_78 rfl 4 rfl ?_
          refine v_callv (pc := 79) C [] 0 (met_m_work (mRw τ n (dgF r v n) f) (show n ≤ 30 by omega) ht hO2) (lw_V q273 q275 qs15 q24 q276) (by decide +kernel) (by decide) (ci := 1) (q0 := 0) rfl rfl rfl rfl (Nat.le_of_ble_eq_true rfl) dX1_count_79 (fun u hu => ?_)
          subst hu
          refine v_aload_n (pc := 82) C dX1_count_82 rfl 4 rfl ?_
          refine v_aload_n (pc := 83) C dX1_count_83 rfl 4 rfl ?_
          refine gms_rof (pc := 84) C dX1_count_84 ?_
          refine v_iload_n (pc := 87) C dX1_count_87 rfl 5 rfl ?_
          refine lms_rof (pc := 88) (j := j) (v := τ.rof j) C rfl (by omega) dX1_count_88 ?_
          refine v_iconst (pc := 89) C dX1_count_89 ci_0 ?_
          refine v_iload_n (pc := 90) C dX1_count_90 rfl 6 rfl ?_
          refine v_calli (pc := 91) C [.int (nI (τ.rof j)), .int (nI 0), .int (nI n)] 3 (met_m_is (mRw τ n (dgF r v n) (wkT (mRw τ n (dgF r v n) f) τ.tok)) (τ.rof j) 0 n hoj (Nat.zero_le _) (by omega)) (lw_V q285 q287 qs18 q24 q288) (by decide +kernel) (by decide) (ci := 1) (q0 := 0) rfl rfl rfl rfl (Nat.le_of_ble_eq_true rfl) dX1_count_91 (fun r u hu => ?_)
          obtain ⟨rfl, hu⟩ := hu
          rw [hu, show (mRw τ n (dgF r v n) (wkT (mRw τ n (dgF r v n) f) τ.tok)).fit (ix (τ.rof j) 0 n) = b j n v from hbf j n v (dgF r v n) f hj hn (fun k hk => by rw [dgF_at, if_pos hk])]
          refine v_if_eqB (pc := 94) (tgt := 100) C dX1_count_94 (by decide) (fun h94 => ?_) (fun h94 => ?_)
          · skip
            refine v_iinc (pc := 100) C dX1_count_100 1 rfl (v_inc v) (by decide) (lv' := [(5, .int (nI (v + 1))), (6, .int (nI n)), (4, .int (nI (4 ^ n))), (3, .int (nI (cntF (fun w => b j n w) v))), (0, .ref (ad 0)), (1, .int (nI j)), (2, .int (nI n))]) rfl ?_
            refine v_goto (tgt := 40) (pc := 103) C dX1_count_103 (by decide) ?_
            have ih := ih hv2 (dgF r v n) (wkT (mRw τ n (dgF r v n) f) τ.tok) hr2
            have e9 : cntF (fun w => b j n w) (v + 1) = cntF (fun w => b j n w) v + 0 := congrArg (cntF (fun w => b j n w) v + ·) (if_neg (by show ¬ b j n v = true; rw [h94]; decide))
            rw [e9] at ih
            exact v_sub [0, 2, 3, 4, 5, 6] rfl ih
          · skip
            refine v_iinc (pc := 97) C dX1_count_97 3 rfl (v_inc (cntF (fun w => b j n w) v)) (by decide) (lv' := [(3, .int (nI (cntF (fun w => b j n w) v + 1))), (6, .int (nI n)), (5, .int (nI v)), (4, .int (nI (4 ^ n))), (0, .ref (ad 0)), (1, .int (nI j)), (2, .int (nI n))]) rfl ?_
            refine v_iinc (pc := 100) C dX1_count_100 2 rfl (v_inc v) (by decide) (lv' := [(5, .int (nI (v + 1))), (3, .int (nI (cntF (fun w => b j n w) v + 1))), (6, .int (nI n)), (4, .int (nI (4 ^ n))), (0, .ref (ad 0)), (1, .int (nI j)), (2, .int (nI n))]) rfl ?_
            refine v_goto (tgt := 40) (pc := 103) C dX1_count_103 (by decide) ?_
            have ih := ih hv2 (dgF r v n) (wkT (mRw τ n (dgF r v n) f) τ.tok) hr2
            have e9 : cntF (fun w => b j n w) (v + 1) = cntF (fun w => b j n w) v + 1 := congrArg (cntF (fun w => b j n w) v + ·) (if_pos h94)
            rw [e9] at ih
            exact v_sub [0, 3, 1, 4, 5, 6] rfl ih
        · skip
          refine v_aload_n (pc := 56) C dX1_count_56 rfl 4 rfl ?_
          refine gms_row (pc := 57) C dX1_count_57 ?_
          refine v_iload (pc := 60) C dX1_count_60 0 rfl ?_
          refine v_iload (pc := 62) C dX1_count_62 1 rfl ?_
          refine v_iconst (pc := 64) C dX1_count_64 ci_2 ?_
          refine v_iload (pc := 65) C dX1_count_65 0 rfl ?_
          refine v_imulN (pc := 67) C dX1_count_67 ?_
          refine v_ishrE (v := nI (v / 4 ^ i)) (pc := 68) C dX1_count_68 (shr4 (by omega) (by omega)) ?_
          refine v_iconst (pc := 69) C dX1_count_69 ci_3 ?_
          refine v_iandE (v := nI (dig v i)) (pc := 70) C dX1_count_70 (and4 (by omega)) ?_
          refine sms_row (pc := 71) (j := i) (x := dig v i) C (by omega) dX1_count_71 ?_
          skip
          refine v_iinc (pc := 72) C dX1_count_72 0 rfl (v_inc i) (by decide) (lv' := [(6, .int (nI (i + 1))), (5, .int (nI v)), (4, .int (nI (4 ^ n))), (3, .int (nI (cntF (fun w => b j n w) v))), (0, .ref (ad 0)), (1, .int (nI j)), (2, .int (nI n))]) rfl ?_
          refine v_goto (tgt := 50) (pc := 75) C dX1_count_75 (by decide) ?_
          exact v_sub [0, 1, 2, 3, 4, 5, 6] rfl (ih2 h53)
      refine v_iload (pc := 40) C dX1_count_40 0 rfl ?_
      refine v_iload (pc := 42) C dX1_count_42 1 rfl ?_
      refine v_icmp_geN (pc := 44) (tgt := 106) C dX1_count_44 (by decide) (by omega) (by omega) (fun h44 => ?_) (fun h44 => ?_)
      · skip
        obtain rfl : v = 4 ^ n := by omega
        refine v_iload_n (pc := 106) C dX1_count_106 rfl 2 rfl ?_
        exact v_iret (pc := 107) C E (mRw τ n r f) rfl ⟨hcl.symm, Or.inr ⟨n, r, f, hrr, rfl⟩⟩ dX1_count_107
      · skip
        refine v_iconst (pc := 47) C dX1_count_47 ci_0 ?_
        refine v_istore (pc := 48) C dX1_count_48 (by decide) (lv' := [(6, .int (nI 0)), (5, .int (nI v)), (4, .int (nI (4 ^ n))), (3, .int (nI (cntF (fun w => b j n w) v))), (0, .ref (ad 0)), (1, .int (nI j)), (2, .int (nI n))]) rfl ?_
        exact v_sub [0, 1, 2, 3, 4, 5, 6] rfl (L2 h44 0 (Nat.zero_le _))
    refine v_iload_n (pc := 0) C dX1_count_0 rfl 1 rfl ?_
    refine v_if_lt (pc := 1) (tgt := 21) C dX1_count_1 (by decide) (fun h1 => ?_) (fun h1 => ?_)
    · skip
      exact absurd h1 (nI_pos (by omega))
    · skip
      refine v_iload_n (pc := 4) C dX1_count_4 rfl 1 rfl ?_
      refine v_aload_n (pc := 5) C dX1_count_5 rfl 0 rfl ?_
      refine gms_rul (pc := 6) (v := τ.rul) C rfl dX1_count_6 ?_
      refine v_icmp_geN (pc := 9) (tgt := 21) C dX1_count_9 (by decide) (by omega) (by omega) (fun h9 => ?_) (fun h9 => ?_)
      · skip
        exact absurd h9 (by omega)
      · skip
        refine v_iload_n (pc := 12) C dX1_count_12 rfl 2 rfl ?_
        refine v_if_lt (pc := 13) (tgt := 21) C dX1_count_13 (by decide) (fun h13 => ?_) (fun h13 => ?_)
        · skip
          exact absurd h13 (nI_pos (by omega))
        · skip
          refine v_iload_n (pc := 16) C dX1_count_16 rfl 2 rfl ?_
          refine v_iconst (pc := 17) C dX1_count_17 ci_4 ?_
          refine v_icmp_leN (pc := 18) (tgt := 23) C dX1_count_18 (by decide) (by omega) (by omega) (fun h18 => ?_) (fun h18 => ?_)
          · skip
            refine v_iconst (pc := 23) C dX1_count_23 ci_0 ?_
            refine v_istore_n (pc := 24) C dX1_count_24 rfl (by decide) (lv' := [(3, .int (nI 0)), (0, .ref (ad 0)), (1, .int (nI j)), (2, .int (nI n))]) rfl ?_
            refine v_iconst (pc := 25) C dX1_count_25 ci_1 ?_
            refine v_iconst (pc := 26) C dX1_count_26 ci_2 ?_
            refine v_iload_n (pc := 27) C dX1_count_27 rfl 3 rfl ?_
            refine v_imulN (pc := 28) C dX1_count_28 ?_
            refine v_ishlE (v := nI (4 ^ n)) (pc := 29) C dX1_count_29 (sh4 n hn) ?_
            refine v_istore (pc := 30) C dX1_count_30 (by decide) (lv' := [(4, .int (nI (4 ^ n))), (3, .int (nI 0)), (0, .ref (ad 0)), (1, .int (nI j)), (2, .int (nI n))]) rfl ?_
            refine v_aload_n (pc := 32) C dX1_count_32 rfl 2 rfl ?_
            refine v_iload_n (pc := 33) C dX1_count_33 rfl 4 rfl ?_
            refine pms_siz (pc := 34) (v := n) C dX1_count_34 ?_
            refine v_iconst (pc := 37) C dX1_count_37 ci_0 ?_
            refine v_istore (pc := 38) C dX1_count_38 (by decide) (lv' := [(5, .int (nI 0)), (4, .int (nI (4 ^ n))), (3, .int (nI 0)), (0, .ref (ad 0)), (1, .int (nI j)), (2, .int (nI n))]) rfl ?_
            exact v_sub [0, 1, 2, 3, 4, 5] rfl (L 0 (Nat.zero_le _) τ.row τ.fit hO.2)
          · skip
            exact absurd h18 (by omega)
end MS1
end
section
set_option maxRecDepth 100000
section GL
/-- from place p an accepting run of n + 1 letters of f from i on: F what may come next, A which letters a place takes, la the last places -/
def ac (F A : Nat → Nat → Prop) (la : Nat → Prop) (f : Nat → Nat) : Nat → Nat → Nat → Prop
  | 0, p, i => A p (f i) ∧ la p
  | n + 1, p, i => A p (f i) ∧ ∃ q, F p q ∧ ac F A la f n q (i + 1)
/-- the piece i .. j of f is a row of the expression -/
def Gl (F A : Nat → Nat → Prop) (fi la : Nat → Prop) (em : Prop) (f : Nat → Nat) (i j : Nat) : Prop := (i = j ∧ em) ∨ ∃ n p, j = i + n + 1 ∧ fi p ∧ ac F A la f n p i
theorem ac_fr {F F' A A' : Nat → Nat → Prop} {la la' : Nat → Prop} {f : Nat → Nat} (O : Nat → Prop) (hf : ∀ k, f k < 4) (hA : ∀ p a, O p → a < 4 → (A p a ↔ A' p a)) (hF : ∀ p q, O p → (F p q ↔ F' p q)) (hO : ∀ p q, O p → F p q → O q) (hl : ∀ p, O p → (la p ↔ la' p)) : ∀ n p i, O p → (ac F A la f n p i ↔ ac F' A' la' f n p i) := by
  intro n
  induction n with
  | zero =>
    intro p i h
    show (A p (f i) ∧ la p) ↔ (A' p (f i) ∧ la' p)
    rw [hA p _ h (hf i), hl p h]
  | succ n ih =>
    intro p i h
    show (A p (f i) ∧ ∃ q, F p q ∧ ac F A la f n q (i + 1)) ↔ (A' p (f i) ∧ ∃ q, F' p q ∧ ac F' A' la' f n q (i + 1))
    rw [hA p _ h (hf i)]
    constructor
    · rintro ⟨h1, q, h2, h3⟩
      exact ⟨h1, q, (hF p q h).mp h2, (ih q (i + 1) (hO p q h h2)).mp h3⟩
    · rintro ⟨h1, q, h2, h3⟩
      have h2 := (hF p q h).mpr h2
      exact ⟨h1, q, h2, (ih q (i + 1) (hO p q h h2)).mpr h3⟩
theorem Gl_fr {F F' A A' : Nat → Nat → Prop} {fi la : Nat → Prop} {em : Prop} {f : Nat → Nat} (O : Nat → Prop) (hf : ∀ k, f k < 4) (hA : ∀ p a, O p → a < 4 → (A p a ↔ A' p a)) (hF : ∀ p q, O p → (F p q ↔ F' p q)) (hO : ∀ p q, O p → F p q → O q) (hfi : ∀ p, fi p → O p) (i j : Nat) : Gl F A fi la em f i j ↔ Gl F' A' fi la em f i j := by
  have key := ac_fr (la := la) (la' := la) O hf hA hF hO (fun p _ => Iff.rfl)
  constructor
  · rintro (h | ⟨n, p, h1, h2, h3⟩)
    · exact Or.inl h
    · exact Or.inr ⟨n, p, h1, h2, (key n p i (hfi p h2)).mp h3⟩
  · rintro (h | ⟨n, p, h1, h2, h3⟩)
    · exact Or.inl h
    · exact Or.inr ⟨n, p, h1, h2, (key n p i (hfi p h2)).mpr h3⟩
/-- a run ends in a last place that has what the run's first place has, when F keeps it -/
theorem ac_own {F A : Nat → Nat → Prop} {la : Nat → Prop} {f : Nat → Nat} (O : Nat → Prop) (hO : ∀ p q, O p → F p q → O q) : ∀ n p i, O p → ac F A la f n p i → ∃ q, O q ∧ la q := by
  intro n
  induction n with
  | zero =>
    intro p i h h2
    exact ⟨p, h, h2.2⟩
  | succ n ih =>
    intro p i h h2
    obtain ⟨_, q, h3, h4⟩ := h2
    exact ih q (i + 1) (hO p q h h3) h4
theorem ac_then {F F' A : Nat → Nat → Prop} {lx fy ly l' : Nat → Prop} {ey : Prop} {f : Nat → Nat} (Ox Oy : Nat → Prop) (hf : ∀ k, f k < 4) (hOx : ∀ p q, Ox p → F p q → Ox q) (hOy : ∀ p q, Oy p → F p q → Oy q) (hd : ∀ p, Ox p → Oy p → False) (hlx : ∀ p, lx p → Ox p) (hfy : ∀ p, fy p → Oy p) (hly : ∀ p, ly p → Oy p) (hF : ∀ p q, F' p q ↔ F p q ∨ (lx p ∧ fy q)) (hl : ∀ p, l' p ↔ (ey ∧ lx p) ∨ ly p) :
    (∀ n p i, Oy p → (ac F' A l' f n p i ↔ ac F A ly f n p i)) ∧ ∀ n p i, Ox p → (ac F' A l' f n p i ↔ (ey ∧ ac F A lx f n p i) ∨ ∃ m k q, n = m + k + 1 ∧ ac F A lx f m p i ∧ fy q ∧ ac F A ly f k q (i + m + 1)) := by
  have hy : ∀ n p i, Oy p → (ac F' A l' f n p i ↔ ac F A ly f n p i) := by
    intro n p i h
    refine (ac_fr Oy hf (fun _ _ _ _ => Iff.rfl) ?_ hOy ?_ n p i h).symm
    · intro p q hp
      rw [hF]
      constructor
      · exact Or.inl
      · rintro (z | ⟨z, _⟩)
        · exact z
        · exact (hd p (hlx p z) hp).elim
    · intro p hp
      rw [hl]
      constructor
      · exact Or.inr
      · rintro (⟨_, z⟩ | z)
        · exact (hd p (hlx p z) hp).elim
        · exact z
  refine ⟨hy, ?_⟩
  intro n
  induction n with
  | zero =>
    intro p i h
    show (A p (f i) ∧ l' p) ↔ _
    constructor
    · rintro ⟨h1, h2⟩
      rcases (hl p).mp h2 with ⟨z1, z2⟩ | z
      · exact Or.inl ⟨z1, h1, z2⟩
      · exact (hd p h (hly p z)).elim
    · rintro (⟨h1, h2, h3⟩ | ⟨m, k, q, h1, _⟩)
      · exact ⟨h2, (hl p).mpr (Or.inl ⟨h1, h3⟩)⟩
      · omega
  | succ n ih =>
    intro p i h
    show (A p (f i) ∧ ∃ q, F' p q ∧ ac F' A l' f n q (i + 1)) ↔ _
    constructor
    · rintro ⟨h1, q, h2, h3⟩
      rcases (hF p q).mp h2 with z | ⟨z1, z2⟩
      · rcases (ih q (i + 1) (hOx p q h z)).mp h3 with ⟨w1, w2⟩ | ⟨m, k, q2, w1, w2, w3, w4⟩
        · exact Or.inl ⟨w1, h1, q, z, w2⟩
        · refine Or.inr ⟨m + 1, k, q2, by omega, ⟨h1, q, z, w2⟩, w3, ?_⟩
          rw [show i + (m + 1) + 1 = i + 1 + m + 1 by omega]
          exact w4
      · exact Or.inr ⟨0, n, q, by omega, ⟨h1, z1⟩, z2, (hy n q (i + 1) (hfy q z2)).mp h3⟩
    · rintro (⟨h1, h2, q, h3, h4⟩ | ⟨m, k, q, h1, h2, h3, h4⟩)
      · exact ⟨h2, q, (hF p q).mpr (Or.inl h3), (ih q (i + 1) (hOx p q h h3)).mpr (Or.inl ⟨h1, h4⟩)⟩
      · cases m with
        | zero =>
          obtain rfl : n = k := by omega
          exact ⟨h2.1, q, (hF p q).mpr (Or.inr ⟨h2.2, h3⟩), (hy n q (i + 1) (hfy q h3)).mpr h4⟩
        | succ m =>
          obtain ⟨w1, q2, w2, w3⟩ := h2
          refine ⟨w1, q2, (hF p q2).mpr (Or.inl w2), (ih q2 (i + 1) (hOx p q2 h w2)).mpr (Or.inr ⟨m, k, q, by omega, w3, h3, ?_⟩)⟩
          rw [show i + 1 + m + 1 = i + (m + 1) + 1 by omega]
          exact h4
theorem Gl_then {F F' A : Nat → Nat → Prop} {fx lx fy ly f' l' : Nat → Prop} {ex ey e' : Prop} {f : Nat → Nat} (Ox Oy : Nat → Prop) (hf : ∀ k, f k < 4) (hOx : ∀ p q, Ox p → F p q → Ox q) (hOy : ∀ p q, Oy p → F p q → Oy q) (hd : ∀ p, Ox p → Oy p → False) (hfx : ∀ p, fx p → Ox p) (hlx : ∀ p, lx p → Ox p) (hfy : ∀ p, fy p → Oy p) (hly : ∀ p, ly p → Oy p) (hF : ∀ p q, F' p q ↔ F p q ∨ (lx p ∧ fy q)) (hl : ∀ p, l' p ↔ (ey ∧ lx p) ∨ ly p) (hf' : ∀ p, f' p ↔ fx p ∨ (ex ∧ fy p)) (he : e' ↔ ex ∧ ey) (i j : Nat) :
    Gl F' A f' l' e' f i j ↔ ∃ k, i ≤ k ∧ k ≤ j ∧ Gl F A fx lx ex f i k ∧ Gl F A fy ly ey f k j := by
  obtain ⟨hy, hx⟩ := ac_then (A := A) (f := f) Ox Oy hf hOx hOy hd hlx hfy hly hF hl
  constructor
  · rintro (⟨rfl, h⟩ | ⟨n, p, h1, h2, h3⟩)
    · obtain ⟨z1, z2⟩ := he.mp h
      exact ⟨i, Nat.le_refl _, Nat.le_refl _, Or.inl ⟨rfl, z1⟩, Or.inl ⟨rfl, z2⟩⟩
    · rcases (hf' p).mp h2 with z | ⟨z1, z2⟩
      · rcases (hx n p i (hfx p z)).mp h3 with ⟨w1, w2⟩ | ⟨m, k, q, w1, w2, w3, w4⟩
        · exact ⟨j, by omega, Nat.le_refl _, Or.inr ⟨n, p, h1, z, w2⟩, Or.inl ⟨rfl, w1⟩⟩
        · exact ⟨i + m + 1, by omega, by omega, Or.inr ⟨m, p, rfl, z, w2⟩, Or.inr ⟨k, q, by omega, w3, w4⟩⟩
      · exact ⟨i, Nat.le_refl _, by omega, Or.inl ⟨rfl, z1⟩, Or.inr ⟨n, p, h1, z2, (hy n p i (hfy p z2)).mp h3⟩⟩
  · rintro ⟨k, h1, h2, (⟨rfl, h3⟩ | ⟨n, p, h3, h4, h5⟩), (⟨h6, h7⟩ | ⟨m, q, h6, h7, h8⟩)⟩
    · exact Or.inl ⟨h6, he.mpr ⟨h3, h7⟩⟩
    · exact Or.inr ⟨m, q, h6, (hf' q).mpr (Or.inr ⟨h3, h7⟩), (hy m q i (hfy q h7)).mpr h8⟩
    · subst h6
      exact Or.inr ⟨n, p, h3, (hf' p).mpr (Or.inl h4), (hx n p i (hfx p h4)).mpr (Or.inl ⟨h7, h5⟩)⟩
    · subst h3
      exact Or.inr ⟨n + m + 1, p, by omega, (hf' p).mpr (Or.inl h4), (hx _ p i (hfx p h4)).mpr (Or.inr ⟨n, m, q, rfl, h5, h7, h8⟩)⟩
theorem Gl_or {F A : Nat → Nat → Prop} {fx lx fy ly f' l' : Nat → Prop} {ex ey e' : Prop} {f : Nat → Nat} (Ox Oy : Nat → Prop) (hf : ∀ k, f k < 4) (hOx : ∀ p q, Ox p → F p q → Ox q) (hOy : ∀ p q, Oy p → F p q → Oy q) (hd : ∀ p, Ox p → Oy p → False) (hfx : ∀ p, fx p → Ox p) (hlx : ∀ p, lx p → Ox p) (hfy : ∀ p, fy p → Oy p) (hly : ∀ p, ly p → Oy p) (hl : ∀ p, l' p ↔ lx p ∨ ly p) (hf' : ∀ p, f' p ↔ fx p ∨ fy p) (he : e' ↔ ex ∨ ey) (i j : Nat) :
    Gl F A f' l' e' f i j ↔ Gl F A fx lx ex f i j ∨ Gl F A fy ly ey f i j := by
  have hx := ac_fr (F := F) (F' := F) (A := A) (A' := A) (la := lx) (la' := l') Ox hf (fun _ _ _ _ => Iff.rfl) (fun _ _ _ => Iff.rfl) hOx (fun p hp => by
    rw [hl]
    exact ⟨Or.inl, fun z => z.elim id (fun z => (hd p hp (hly p z)).elim)⟩)
  have hy := ac_fr (F := F) (F' := F) (A := A) (A' := A) (la := ly) (la' := l') Oy hf (fun _ _ _ _ => Iff.rfl) (fun _ _ _ => Iff.rfl) hOy (fun p hp => by
    rw [hl]
    exact ⟨Or.inr, fun z => z.elim (fun z => (hd p (hlx p z) hp).elim) id⟩)
  constructor
  · rintro (⟨h1, h2⟩ | ⟨n, p, h1, h2, h3⟩)
    · rcases he.mp h2 with z | z
      · exact Or.inl (Or.inl ⟨h1, z⟩)
      · exact Or.inr (Or.inl ⟨h1, z⟩)
    · rcases (hf' p).mp h2 with z | z
      · exact Or.inl (Or.inr ⟨n, p, h1, z, (hx n p i (hfx p z)).mpr h3⟩)
      · exact Or.inr (Or.inr ⟨n, p, h1, z, (hy n p i (hfy p z)).mpr h3⟩)
  · rintro ((⟨h1, h2⟩ | ⟨n, p, h1, h2, h3⟩) | (⟨h1, h2⟩ | ⟨n, p, h1, h2, h3⟩))
    · exact Or.inl ⟨h1, he.mpr (Or.inl h2)⟩
    · exact Or.inr ⟨n, p, h1, (hf' p).mpr (Or.inl h2), (hx n p i (hfx p h2)).mp h3⟩
    · exact Or.inl ⟨h1, he.mpr (Or.inr h2)⟩
    · exact Or.inr ⟨n, p, h1, (hf' p).mpr (Or.inr h2), (hy n p i (hfy p h2)).mp h3⟩
theorem ac_star {F F' A : Nat → Nat → Prop} {fx lx : Nat → Prop} {f : Nat → Nat} (hF : ∀ p q, F' p q ↔ F p q ∨ (lx p ∧ fx q)) : ∀ n p i, ac F' A lx f n p i ↔ ac F A lx f n p i ∨ ∃ m k q, n = m + k + 1 ∧ ac F A lx f m p i ∧ fx q ∧ ac F' A lx f k q (i + m + 1) := by
  intro n
  induction n with
  | zero =>
    intro p i
    constructor
    · intro h
      exact Or.inl h
    · rintro (h | ⟨m, k, q, h1, _⟩)
      · exact h
      · omega
  | succ n ih =>
    intro p i
    show (A p (f i) ∧ ∃ q, F' p q ∧ ac F' A lx f n q (i + 1)) ↔ _
    constructor
    · rintro ⟨h1, q, h2, h3⟩
      rcases (hF p q).mp h2 with z | ⟨z1, z2⟩
      · rcases (ih q (i + 1)).mp h3 with w | ⟨m, k, q2, w1, w2, w3, w4⟩
        · exact Or.inl ⟨h1, q, z, w⟩
        · refine Or.inr ⟨m + 1, k, q2, by omega, ⟨h1, q, z, w2⟩, w3, ?_⟩
          rw [show i + (m + 1) + 1 = i + 1 + m + 1 by omega]
          exact w4
      · exact Or.inr ⟨0, n, q, by omega, ⟨h1, z1⟩, z2, h3⟩
    · rintro (⟨h1, q, h2, h3⟩ | ⟨m, k, q, h1, h2, h3, h4⟩)
      · exact ⟨h1, q, (hF p q).mpr (Or.inl h2), (ih q (i + 1)).mpr (Or.inl h3)⟩
      · cases m with
        | zero =>
          obtain rfl : n = k := by omega
          exact ⟨h2.1, q, (hF p q).mpr (Or.inr ⟨h2.2, h3⟩), h4⟩
        | succ m =>
          obtain ⟨w1, q2, w2, w3⟩ := h2
          refine ⟨w1, q2, (hF p q2).mpr (Or.inl w2), (ih q2 (i + 1)).mpr (Or.inr ⟨m, k, q, by omega, w3, h3, ?_⟩)⟩
          rw [show i + 1 + m + 1 = i + (m + 1) + 1 by omega]
          exact h4
theorem Gl_star {F F' A : Nat → Nat → Prop} {fx lx : Nat → Prop} {ex e' : Prop} {f : Nat → Nat} (hF : ∀ p q, F' p q ↔ F p q ∨ (lx p ∧ fx q)) (he : e') (i j : Nat) :
    Gl F' A fx lx e' f i j ↔ i = j ∨ ∃ k, i < k ∧ k ≤ j ∧ Gl F A fx lx ex f i k ∧ Gl F' A fx lx e' f k j := by
  have hs := ac_star (A := A) (f := f) hF
  constructor
  · rintro (⟨h1, _⟩ | ⟨n, p, h1, h2, h3⟩)
    · exact Or.inl h1
    · right
      rcases (hs n p i).mp h3 with z | ⟨m, k, q, z1, z2, z3, z4⟩
      · exact ⟨j, by omega, Nat.le_refl _, Or.inr ⟨n, p, h1, h2, z⟩, Or.inl ⟨rfl, he⟩⟩
      · exact ⟨i + m + 1, by omega, by omega, Or.inr ⟨m, p, rfl, h2, z2⟩, Or.inr ⟨k, q, by omega, z3, z4⟩⟩
  · rintro (h | ⟨k, h1, h2, (⟨h3, h4⟩ | ⟨n, p, h3, h4, h5⟩), (⟨h6, h7⟩ | ⟨m, q, h6, h7, h8⟩)⟩)
    · exact Or.inl ⟨h, he⟩
    · omega
    · omega
    · subst h6
      exact Or.inr ⟨n, p, h3, h4, (hs n p i).mpr (Or.inl h5)⟩
    · subst h3
      exact Or.inr ⟨n + m + 1, p, by omega, h4, (hs _ p i).mpr (Or.inr ⟨n, m, q, rfl, h5, h7, h8⟩)⟩
theorem Gl_plus {F F' A : Nat → Nat → Prop} {fx lx : Nat → Prop} {ex e' : Prop} {f : Nat → Nat} (hF : ∀ p q, F' p q ↔ F p q ∨ (lx p ∧ fx q)) (he : e' ↔ ex) (i j : Nat) :
    Gl F' A fx lx e' f i j ↔ Gl F A fx lx ex f i j ∨ ∃ k, i < k ∧ k ≤ j ∧ Gl F A fx lx ex f i k ∧ Gl F' A fx lx e' f k j := by
  have hs := ac_star (A := A) (f := f) hF
  constructor
  · rintro (⟨h1, h2⟩ | ⟨n, p, h1, h2, h3⟩)
    · exact Or.inl (Or.inl ⟨h1, he.mp h2⟩)
    · rcases (hs n p i).mp h3 with z | ⟨m, k, q, z1, z2, z3, z4⟩
      · exact Or.inl (Or.inr ⟨n, p, h1, h2, z⟩)
      · exact Or.inr ⟨i + m + 1, by omega, by omega, Or.inr ⟨m, p, rfl, h2, z2⟩, Or.inr ⟨k, q, by omega, z3, z4⟩⟩
  · rintro ((⟨h1, h2⟩ | ⟨n, p, h1, h2, h3⟩) | ⟨k, h1, h2, (⟨h3, h4⟩ | ⟨n, p, h3, h4, h5⟩), (⟨h6, h7⟩ | ⟨m, q, h6, h7, h8⟩)⟩)
    · exact Or.inl ⟨h1, he.mpr h2⟩
    · exact Or.inr ⟨n, p, h1, h2, (hs n p i).mpr (Or.inl h3)⟩
    · omega
    · omega
    · subst h6
      exact Or.inr ⟨n, p, h3, h4, (hs n p i).mpr (Or.inl h5)⟩
    · subst h3
      exact Or.inr ⟨n + m + 1, p, by omega, h4, (hs _ p i).mpr (Or.inr ⟨n, m, q, rfl, h5, h7, h8⟩)⟩
/-- what may come next, and which letters a place takes, in LexTables -/
def xF (σ : XS) (p q : Nat) : Prop := p < σ.pl ∧ lb (σ.fol p) q = true
def xA (σ : XS) (p a : Nat) : Prop := lb (σ.lp a) p = true
def bs (w : Int64) (p : Nat) : Prop := lb w p = true
theorem and_ne0 (w v : Int64) : (¬ w &&& v = 0) ↔ ∃ q, bs w q ∧ bs v q := by
  rw [lb_ne0]
  constructor
  · rintro ⟨p, h⟩
    rw [lb_and, Bool.and_eq_true] at h
    exact ⟨p, h⟩
  · rintro ⟨p, h⟩
    refine ⟨p, ?_⟩
    rw [lb_and, Bool.and_eq_true]
    exact h
theorem rsO_sh (σ : XS) (w : Int64) (f : Nat → Nat) (i : Nat) : ∀ n, rsO σ w f i (n + 1) = rsO σ (flw σ.fol (w &&& σ.lp (f i)) σ.pl) f (i + 1) n := by
  intro n
  induction n with
  | zero => rfl
  | succ n ih =>
    show flw σ.fol (rsO σ w f i (n + 1)) σ.pl &&& σ.lp (f (i + (n + 1) + 1)) = flw σ.fol (rsO σ (flw σ.fol (w &&& σ.lp (f i)) σ.pl) f (i + 1) n) σ.pl &&& σ.lp (f (i + 1 + n + 1))
    rw [ih, show i + (n + 1) + 1 = i + 1 + n + 1 by omega]
/-- the sets of places, forward, find the accepting runs -/
theorem rs_ac (σ : XS) (la : Nat → Prop) (f : Nat → Nat) : ∀ (n : Nat) (w : Int64) (i : Nat), (∃ q, bs (rsO σ w f i n) q ∧ la q) ↔ ∃ p, bs w p ∧ ac (xF σ) (xA σ) la f n p i := by
  intro n
  induction n with
  | zero =>
    intro w i
    show (∃ q, lb (w &&& σ.lp (f i)) q = true ∧ la q) ↔ ∃ p, lb w p = true ∧ lb (σ.lp (f i)) p = true ∧ la p
    constructor
    · rintro ⟨q, h1, h2⟩
      rw [lb_and, Bool.and_eq_true] at h1
      exact ⟨q, h1.1, h1.2, h2⟩
    · rintro ⟨q, h1, h2, h3⟩
      refine ⟨q, ?_, h3⟩
      rw [lb_and, Bool.and_eq_true]
      exact ⟨h1, h2⟩
  | succ n ih =>
    intro w i
    rw [rsO_sh, ih]
    constructor
    · rintro ⟨p, h1, h2⟩
      obtain ⟨p0, h3, h4, h5⟩ := (lb_flw σ.fol _ p σ.pl).mp h1
      rw [lb_and, Bool.and_eq_true] at h4
      exact ⟨p0, h4.1, h4.2, p, ⟨h3, h5⟩, h2⟩
    · rintro ⟨p0, h1, h2, p, ⟨h3, h4⟩, h5⟩
      refine ⟨p, (lb_flw σ.fol _ p σ.pl).mpr ⟨p0, h3, ?_, h4⟩, h5⟩
      rw [lb_and, Bool.and_eq_true]
      exact ⟨h1, h2⟩
end GL
end
section
set_option maxRecDepth 100000
section LG
/-- the rows of each token's expression: token, row, piece -/
abbrev LT : Type := Nat → (Nat → Nat) → Nat → Nat → Prop
/-- what token t says of a piece, by what is known of shorter ones and of earlier tokens -/
def Rq (c a l r t x : Nat) (A : Nat → Nat → Nat → Prop) (i j : Nat) : Prop :=
  (c = 0 ∧ j = i + 1 ∧ x = a) ∨ (c = 1 ∧ j = i + 1) ∨ (c = 2 ∧ i = j) ∨ (c = 3 ∧ ∃ k, i ≤ k ∧ k ≤ j ∧ A l i k ∧ A r k j) ∨ (c = 4 ∧ (A l i j ∨ A r i j)) ∨ (c = 5 ∧ (i = j ∨ ∃ k, i < k ∧ k ≤ j ∧ A r i k ∧ A t k j)) ∨ (c = 6 ∧ (A r i j ∨ ∃ k, i < k ∧ k ≤ j ∧ A r i k ∧ A t k j))
theorem Rq_mn {c a l r t x x' : Nat} {A B : Nat → Nat → Nat → Prop} {i j : Nat} (hij : i ≤ j) (hx : j = i + 1 → x = x') (h1 : (c = 3 ∨ c = 4) → ∀ p q, i ≤ p → p ≤ q → q ≤ j → (A l p q ↔ B l p q)) (h2 : 3 ≤ c → ∀ p q, i ≤ p → p ≤ q → q ≤ j → (A r p q ↔ B r p q)) (h3 : ∀ k, i < k → k ≤ j → (A t k j ↔ B t k j)) (h : Rq c a l r t x A i j) : Rq c a l r t x' B i j := by
  rcases h with ⟨hc, e1, e2⟩ | h | h | ⟨hc, k, k1, k2, k3, k4⟩ | ⟨hc, h⟩ | ⟨hc, h⟩ | ⟨hc, h⟩
  · exact Or.inl ⟨hc, e1, by rw [← hx e1]; exact e2⟩
  · exact Or.inr (Or.inl h)
  · exact Or.inr (Or.inr (Or.inl h))
  · exact Or.inr (Or.inr (Or.inr (Or.inl ⟨hc, k, k1, k2, (h1 (Or.inl hc) i k (Nat.le_refl _) k1 k2).mp k3, (h2 (by omega) k j k1 k2 (Nat.le_refl _)).mp k4⟩)))
  · refine Or.inr (Or.inr (Or.inr (Or.inr (Or.inl ⟨hc, ?_⟩))))
    rcases h with h | h
    · exact Or.inl ((h1 (Or.inr hc) i j (Nat.le_refl _) hij (Nat.le_refl _)).mp h)
    · exact Or.inr ((h2 (by omega) i j (Nat.le_refl _) hij (Nat.le_refl _)).mp h)
  · refine Or.inr (Or.inr (Or.inr (Or.inr (Or.inr (Or.inl ⟨hc, ?_⟩)))))
    rcases h with h | ⟨k, k1, k2, k3, k4⟩
    · exact Or.inl h
    · exact Or.inr ⟨k, k1, k2, (h2 (by omega) i k (Nat.le_refl _) (by omega) k2).mp k3, (h3 k k1 k2).mp k4⟩
  · refine Or.inr (Or.inr (Or.inr (Or.inr (Or.inr (Or.inr ⟨hc, ?_⟩)))))
    rcases h with h | ⟨k, k1, k2, k3, k4⟩
    · exact Or.inl ((h2 (by omega) i j (Nat.le_refl _) hij (Nat.le_refl _)).mp h)
    · exact Or.inr ⟨k, k1, k2, (h2 (by omega) i k (Nat.le_refl _) (by omega) k2).mp k3, (h3 k k1 k2).mp k4⟩
theorem Rq_cg {c a l r t x x' : Nat} {A B : Nat → Nat → Nat → Prop} {i j : Nat} (hij : i ≤ j) (hx : j = i + 1 → x = x') (h1 : (c = 3 ∨ c = 4) → ∀ p q, i ≤ p → p ≤ q → q ≤ j → (A l p q ↔ B l p q)) (h2 : 3 ≤ c → ∀ p q, i ≤ p → p ≤ q → q ≤ j → (A r p q ↔ B r p q)) (h3 : ∀ k, i < k → k ≤ j → (A t k j ↔ B t k j)) : Rq c a l r t x A i j ↔ Rq c a l r t x' B i j :=
  ⟨Rq_mn hij hx h1 h2 h3, Rq_mn hij (fun h => (hx h).symm) (fun h p q z1 z2 z3 => (h1 h p q z1 z2 z3).symm) (fun h p q z1 z2 z3 => (h2 h p q z1 z2 z3).symm) (fun k z1 z2 => (h3 k z1 z2).symm)⟩
theorem Rq_0 {a l r t x : Nat} {A : Nat → Nat → Nat → Prop} {i j : Nat} : Rq 0 a l r t x A i j ↔ j = i + 1 ∧ x = a := by
  constructor
  · rintro (⟨_, h⟩ | ⟨hc, _⟩ | ⟨hc, _⟩ | ⟨hc, _⟩ | ⟨hc, _⟩ | ⟨hc, _⟩ | ⟨hc, _⟩)
    · exact h
    all_goals exact absurd hc (by decide)
  · intro h
    exact Or.inl ⟨rfl, h⟩
theorem Rq_1 {a l r t x : Nat} {A : Nat → Nat → Nat → Prop} {i j : Nat} : Rq 1 a l r t x A i j ↔ j = i + 1 := by
  constructor
  · rintro (⟨hc, _⟩ | ⟨_, h⟩ | ⟨hc, _⟩ | ⟨hc, _⟩ | ⟨hc, _⟩ | ⟨hc, _⟩ | ⟨hc, _⟩)
    · exact absurd hc (by decide)
    · exact h
    all_goals exact absurd hc (by decide)
  · intro h
    exact Or.inr (Or.inl ⟨rfl, h⟩)
theorem Rq_2 {a l r t x : Nat} {A : Nat → Nat → Nat → Prop} {i j : Nat} : Rq 2 a l r t x A i j ↔ i = j := by
  constructor
  · rintro (⟨hc, _⟩ | ⟨hc, _⟩ | ⟨_, h⟩ | ⟨hc, _⟩ | ⟨hc, _⟩ | ⟨hc, _⟩ | ⟨hc, _⟩)
    · exact absurd hc (by decide)
    · exact absurd hc (by decide)
    · exact h
    all_goals exact absurd hc (by decide)
  · intro h
    exact Or.inr (Or.inr (Or.inl ⟨rfl, h⟩))
theorem Rq_3 {a l r t x : Nat} {A : Nat → Nat → Nat → Prop} {i j : Nat} : Rq 3 a l r t x A i j ↔ ∃ k, i ≤ k ∧ k ≤ j ∧ A l i k ∧ A r k j := by
  constructor
  · rintro (⟨hc, _⟩ | ⟨hc, _⟩ | ⟨hc, _⟩ | ⟨_, h⟩ | ⟨hc, _⟩ | ⟨hc, _⟩ | ⟨hc, _⟩)
    · exact absurd hc (by decide)
    · exact absurd hc (by decide)
    · exact absurd hc (by decide)
    · exact h
    all_goals exact absurd hc (by decide)
  · intro h
    exact Or.inr (Or.inr (Or.inr (Or.inl ⟨rfl, h⟩)))
theorem Rq_4 {a l r t x : Nat} {A : Nat → Nat → Nat → Prop} {i j : Nat} : Rq 4 a l r t x A i j ↔ A l i j ∨ A r i j := by
  constructor
  · rintro (⟨hc, _⟩ | ⟨hc, _⟩ | ⟨hc, _⟩ | ⟨hc, _⟩ | ⟨_, h⟩ | ⟨hc, _⟩ | ⟨hc, _⟩)
    · exact absurd hc (by decide)
    · exact absurd hc (by decide)
    · exact absurd hc (by decide)
    · exact absurd hc (by decide)
    · exact h
    all_goals exact absurd hc (by decide)
  · intro h
    exact Or.inr (Or.inr (Or.inr (Or.inr (Or.inl ⟨rfl, h⟩))))
theorem Rq_5 {a l r t x : Nat} {A : Nat → Nat → Nat → Prop} {i j : Nat} : Rq 5 a l r t x A i j ↔ (i = j ∨ ∃ k, i < k ∧ k ≤ j ∧ A r i k ∧ A t k j) := by
  constructor
  · rintro (⟨hc, _⟩ | ⟨hc, _⟩ | ⟨hc, _⟩ | ⟨hc, _⟩ | ⟨hc, _⟩ | ⟨_, h⟩ | ⟨hc, _⟩)
    · exact absurd hc (by decide)
    · exact absurd hc (by decide)
    · exact absurd hc (by decide)
    · exact absurd hc (by decide)
    · exact absurd hc (by decide)
    · exact h
    · exact absurd hc (by decide)
  · intro h
    exact Or.inr (Or.inr (Or.inr (Or.inr (Or.inr (Or.inl ⟨rfl, h⟩)))))
theorem Rq_6 {a l r t x : Nat} {A : Nat → Nat → Nat → Prop} {i j : Nat} : Rq 6 a l r t x A i j ↔ (A r i j ∨ ∃ k, i < k ∧ k ≤ j ∧ A r i k ∧ A t k j) := by
  constructor
  · rintro (⟨hc, _⟩ | ⟨hc, _⟩ | ⟨hc, _⟩ | ⟨hc, _⟩ | ⟨hc, _⟩ | ⟨hc, _⟩ | ⟨_, h⟩)
    · exact absurd hc (by decide)
    · exact absurd hc (by decide)
    · exact absurd hc (by decide)
    · exact absurd hc (by decide)
    · exact absurd hc (by decide)
    · exact absurd hc (by decide)
    · exact h
  · intro h
    exact Or.inr (Or.inr (Or.inr (Or.inr (Or.inr (Or.inr ⟨rfl, h⟩)))))
theorem Rq_7 {a l r t x : Nat} {A : Nat → Nat → Nat → Prop} {i j : Nat} : ¬ Rq 7 a l r t x A i j := by
  rintro (⟨hc, _⟩ | ⟨hc, _⟩ | ⟨hc, _⟩ | ⟨hc, _⟩ | ⟨hc, _⟩ | ⟨hc, _⟩ | ⟨hc, _⟩)
  all_goals exact absurd hc (by decide)
/-- every token's rows are what the token says -/
def RcE (τ : MS) (Lt : LT) : Prop := ∀ t, t < τ.tok → ((τ.cod t = 3 ∨ τ.cod t = 4) → τ.lef t < t) ∧ (3 ≤ τ.cod t → τ.rig t < t) ∧ ∀ f, (∀ n, f n < 4) → ∀ i j, i ≤ j → (Lt t f i j ↔ Rq (τ.cod t) (τ.arg t) (τ.lef t) (τ.rig t) t (f i) (fun t => Lt t f) i j)
-- ===== the model's table =====
theorem bthF_iff {τ : MS} {a b i j l : Nat} (h : i + l ≤ j + 1) : bthF τ a b i j l = true ↔ ∃ k, i + l ≤ k ∧ k ≤ j ∧ τ.fit (ix a i k) = true ∧ τ.fit (ix b k j) = true := by
  unfold bthF
  rw [anB_spec]
  constructor
  · rintro ⟨k, h1, h2, h3⟩
    rw [Bool.and_eq_true] at h3
    exact ⟨k, h1, by omega, h3⟩
  · rintro ⟨k, h1, h2, h3⟩
    exact ⟨k, h1, by omega, by rw [Bool.and_eq_true]; exact h3⟩
theorem mF_Rq {τ : MS} {t i j : Nat} (hc : τ.cod t ≤ 7) (hij : i ≤ j) : mF τ t i j = true ↔ Rq (τ.cod t) (τ.arg t) (τ.lef t) (τ.rig t) t (τ.row i) (fun t i j => τ.fit (ix t i j) = true) i j := by
  unfold mF
  have h8 : τ.cod t = 0 ∨ τ.cod t = 1 ∨ τ.cod t = 2 ∨ τ.cod t = 3 ∨ τ.cod t = 4 ∨ τ.cod t = 5 ∨ τ.cod t = 6 ∨ τ.cod t = 7 := by omega
  rcases h8 with e | e | e | e | e | e | e | e
  · rw [if_pos e, e, Rq_0, Bool.and_eq_true, decide_eq_true_eq, decide_eq_true_eq]
  · rw [if_neg (by omega), if_pos e, e, Rq_1, decide_eq_true_eq]
  · rw [if_neg (by omega), if_neg (by omega), if_pos e, e, Rq_2, decide_eq_true_eq]
  · rw [if_neg (by omega), if_neg (by omega), if_neg (by omega), if_pos e, e, Rq_3, bthF_iff (by omega)]
    rfl
  · rw [if_neg (by omega), if_neg (by omega), if_neg (by omega), if_neg (by omega), if_pos e, e, Rq_4, Bool.or_eq_true]
  · rw [if_neg (by omega), if_neg (by omega), if_neg (by omega), if_neg (by omega), if_neg (by omega), if_neg (by omega), if_pos e, e, Rq_5, Bool.or_eq_true, decide_eq_true_eq, bthF_iff (by omega)]
    rfl
  · rw [if_neg (by omega), if_neg (by omega), if_neg (by omega), if_neg (by omega), if_neg (by omega), if_neg (by omega), if_neg (by omega), e, Rq_6, Bool.or_eq_true, bthF_iff (by omega)]
    rfl
  · rw [if_neg (by omega), if_neg (by omega), if_neg (by omega), if_neg (by omega), if_neg (by omega), if_pos e, e]
    exact ⟨fun h => absurd h (by decide), fun h => absurd h Rq_7⟩
/-- the table's pieces of token t are right -/
def Okt (T : Nat → Bool) (sz : Nat) (Lt : LT) (f : Nat → Nat) (t : Nat) : Prop := ∀ i j, i ≤ j → j ≤ sz → (T (ix t i j) = true ↔ Lt t f i j)
theorem wkP_ok {τ : MS} {Lt : LT} {f : Nat → Nat} {t : Nat} (hs : τ.siz ≤ 30) (hc : τ.cod t ≤ 7) (hl : (τ.cod t = 3 ∨ τ.cod t = 4) → τ.lef t < t) (hr : 3 ≤ τ.cod t → τ.rig t < t) (hrow : ∀ k, k < τ.siz → τ.row k = f k) (hq : ∀ i j, i ≤ j → (Lt t f i j ↔ Rq (τ.cod t) (τ.arg t) (τ.lef t) (τ.rig t) t (f i) (fun t => Lt t f) i j)) (hlt : ∀ t', t' < t → Okt τ.fit τ.siz Lt f t') :
    ∀ p, p ≤ (τ.siz + 1) * (τ.siz + 1) → (∀ t', t' < t → Okt (wkP τ t p) τ.siz Lt f t') ∧ ∀ i j, i ≤ j → j ≤ τ.siz → (τ.siz - i) * (τ.siz + 1) + j < p → (wkP τ t p (ix t i j) = true ↔ Lt t f i j) := by
  intro p
  induction p with
  | zero =>
    intro _
    exact ⟨hlt, fun i j _ _ h => absurd h (by omega)⟩
  | succ p ih =>
    intro hp
    obtain ⟨h1, h2⟩ := ih (by omega)
    have hi := iP_le τ.siz p
    have hj := jP_le τ.siz p
    have hdm := Nat.div_add_mod p (τ.siz + 1)
    have hdv0 : p / (τ.siz + 1) < τ.siz + 1 := Nat.div_lt_of_lt_mul hp
    have hdv : p / (τ.siz + 1) ≤ τ.siz := Nat.le_of_lt_succ hdv0
    have hback : (τ.siz - iP τ.siz p) * (τ.siz + 1) + jP τ.siz p = p := by
      have e : τ.siz - iP τ.siz p = p / (τ.siz + 1) := by
        exact Nat.sub_sub_self hdv
      rw [e, Nat.mul_comm]
      exact hdm
    refine ⟨?_, ?_⟩
    · intro t' ht' i j hij hjs
      have hne : ix t' i j ≠ ix t (iP τ.siz p) (jP τ.siz p) := by
        show 961 * t' + 31 * i + j ≠ 961 * t + 31 * (iP τ.siz p) + jP τ.siz p
        generalize iP τ.siz p = a at *
        generalize jP τ.siz p = b at *
        omega
      show upB _ _ _ (ix t' i j) = true ↔ _
      rw [upB_n hne]
      exact h1 t' ht' i j hij hjs
    · intro i j hij hjs hlt2
      show upB _ _ _ (ix t i j) = true ↔ _
      by_cases e : (τ.siz - i) * (τ.siz + 1) + j = p
      · have ei : iP τ.siz p = i := by
          show τ.siz - p / (τ.siz + 1) = i
          rw [← e, Nat.add_comm, Nat.add_mul_div_right _ _ (by omega), Nat.div_eq_of_lt (by omega)]
          omega
        have ej : jP τ.siz p = j := by
          show p % (τ.siz + 1) = j
          rw [← e, Nat.add_comm, Nat.add_mul_mod_self_right, Nat.mod_eq_of_lt (by omega)]
        rw [ei, ej, upB_s, Bool.and_eq_true, decide_eq_true_eq]
        have hm := mF_Rq (τ := ms_fit τ (wkP τ t p)) (t := t) (i := i) (j := j) hc hij
        rw [hm]
        constructor
        · rintro ⟨_, z⟩
          refine (hq i j hij).mpr (Rq_mn hij (fun h => hrow i (by omega)) ?_ ?_ ?_ z)
          · intro hh p1 q1 z1 z2 z3
            exact h1 _ (hl hh) p1 q1 z2 (by omega)
          · intro hh p1 q1 z1 z2 z3
            exact h1 _ (hr hh) p1 q1 z2 (by omega)
          · intro k z1 z2
            refine h2 k j z2 hjs ?_
            have := Nat.mul_lt_mul_of_pos_right (show τ.siz - k < τ.siz - i by omega) (show 0 < τ.siz + 1 by omega)
            omega
        · intro z
          refine ⟨hij, Rq_mn hij (fun h => (hrow i (by omega)).symm) ?_ ?_ ?_ ((hq i j hij).mp z)⟩
          · intro hh p1 q1 z1 z2 z3
            exact (h1 _ (hl hh) p1 q1 z2 (by omega)).symm
          · intro hh p1 q1 z1 z2 z3
            exact (h1 _ (hr hh) p1 q1 z2 (by omega)).symm
          · intro k z1 z2
            refine (h2 k j z2 hjs ?_).symm
            have := Nat.mul_lt_mul_of_pos_right (show τ.siz - k < τ.siz - i by omega) (show 0 < τ.siz + 1 by omega)
            omega
      · have hne : ix t i j ≠ ix t (iP τ.siz p) (jP τ.siz p) := by
          intro z
          apply e
          have z : 961 * t + 31 * i + j = 961 * t + 31 * (iP τ.siz p) + jP τ.siz p := z
          have ei : i = iP τ.siz p := by
            clear hback
            generalize iP τ.siz p = a at *
            generalize jP τ.siz p = b at *
            omega
          have ej : j = jP τ.siz p := by
            clear hback
            generalize iP τ.siz p = a at *
            generalize jP τ.siz p = b at *
            omega
          rw [← ei, ← ej] at hback
          exact hback
        rw [upB_n hne]
        exact h2 i j hij hjs (by omega)
theorem wkT_ok {τ : MS} {Lt : LT} {f : Nat → Nat} (hs : τ.siz ≤ 30) (hc : ∀ t, t < τ.tok → τ.cod t ≤ 7) (hR : RcE τ Lt) (hf : ∀ n, f n < 4) (hrow : ∀ k, k < τ.siz → τ.row k = f k) : ∀ n, n ≤ τ.tok → ∀ t, t < n → Okt (wkT τ n) τ.siz Lt f t := by
  intro n
  induction n with
  | zero => intro _ t h; exact absurd h (by omega)
  | succ n ih =>
    intro hn t ht
    obtain ⟨r1, r2, r3⟩ := hR n (by omega)
    obtain ⟨h1, h2⟩ := wkP_ok (τ := ms_fit τ (wkT τ n)) (Lt := Lt) (f := f) (t := n) hs (hc n (by omega)) r1 r2 hrow (r3 f hf) (fun t' h => ih (by omega) t' h) _ (Nat.le_refl _)
    by_cases e : t = n
    · subst e
      intro i j hij hjs
      refine h2 i j hij hjs ?_
      show (τ.siz - i) * (τ.siz + 1) + j < (τ.siz + 1) * (τ.siz + 1)
      have := Nat.mul_le_mul_right (τ.siz + 1) (show τ.siz - i ≤ τ.siz by omega)
      rw [Nat.add_mul]
      omega
    · exact h1 t (by omega)
end LG
end
section
set_option maxRecDepth 100000
section OW
/-- the expression at place k of the stack, and rule r, as sets of rows -/
def GS (σ : XS) (k : Nat) : (Nat → Nat) → Nat → Nat → Prop := Gl (xF σ) (xA σ) (bs (σ.fi k)) (bs (σ.la k)) (σ.em k = true)
def GR (σ : XS) (r : Nat) : (Nat → Nat) → Nat → Nat → Prop := Gl (xF σ) (xA σ) (bs (σ.rf r)) (bs (σ.rl r)) (σ.re r = true)
/-- each place belongs to one expression: that at place k of the stack (k), or rule r (40 + r) -/
def OwI (ow : Nat → Nat) (σ : XS) : Prop :=
  (∀ k p, k < σ.stk → (lb (σ.fi k) p = true ∨ lb (σ.la k) p = true) → p < σ.pl ∧ ow p = k) ∧ (∀ r p, r < σ.rul → (lb (σ.rf r) p = true ∨ lb (σ.rl r) p = true) → p < σ.pl ∧ ow p = 40 + r) ∧ (∀ p q, p < σ.pl → lb (σ.fol p) q = true → q < σ.pl ∧ ow q = ow p) ∧ ∀ a p, a < 4 → lb (σ.lp a) p = true → p < σ.pl
/-- a set of places of rules -/
def GdO (pl : Nat) (ow : Nat → Nat) (w : Int64) : Prop := ∀ p, lb w p = true → p < pl ∧ 40 ≤ ow p
theorem lb_exti {a b : Int64} (h : ∀ p, lb a p = true ↔ lb b p = true) : a = b := by
  apply lb_ext
  intro p
  exact Bool.eq_iff_iff.mpr (h p)
theorem Gcl_ow {ow : Nat → Nat} {σ : XS} (h : OwI ow σ) : Gcl (GdO σ.pl ow) σ := by
  refine ⟨fun a _ p hp => ?_, fun w a _ hw p hp => ?_⟩
  · rw [lb_and, Bool.and_eq_true] at hp
    obtain ⟨r, hr, h2⟩ := (lb_orA σ.rf p σ.rul).mp hp.1
    obtain ⟨z1, z2⟩ := h.2.1 r p hr (Or.inl h2)
    exact ⟨z1, by omega⟩
  · rw [lb_and, Bool.and_eq_true] at hp
    obtain ⟨q, hq, h2, h3⟩ := (lb_flw σ.fol w p σ.pl).mp hp.1
    obtain ⟨z1, z2⟩ := h.2.2.1 q p hq h3
    have := (hw q h2).2
    exact ⟨z1, by omega⟩
theorem x_fr {ow : Nat → Nat} {σ u : XS} (hO : OwI ow σ) {k : Nat} {fi la : Int64} {em : Prop} (hfl : ∀ p, lb fi p = true → p < σ.pl ∧ ow p = k) (hpl : σ.pl ≤ u.pl) (hfo : ∀ p, p < σ.pl → ow p = k → u.fol p = σ.fol p) (hlp : ∀ a p, a < 4 → p < σ.pl → lb (u.lp a) p = lb (σ.lp a) p) {f : Nat → Nat} (hf : ∀ n, f n < 4) (i j : Nat) : Gl (xF u) (xA u) (bs fi) (bs la) em f i j ↔ Gl (xF σ) (xA σ) (bs fi) (bs la) em f i j := by
  refine (Gl_fr (fun p => p < σ.pl ∧ ow p = k) hf ?_ ?_ ?_ hfl i j).symm
  · intro p a hp ha
    show lb (σ.lp a) p = true ↔ lb (u.lp a) p = true
    rw [hlp a p ha hp.1]
  · intro p q hp
    show (p < σ.pl ∧ lb (σ.fol p) q = true) ↔ (p < u.pl ∧ lb (u.fol p) q = true)
    rw [hfo p hp.1 hp.2]
    exact ⟨fun h => ⟨by omega, h.2⟩, fun h => ⟨hp.1, h.2⟩⟩
  · rintro p q hp ⟨_, h⟩
    obtain ⟨z1, z2⟩ := hO.2.2.1 p q hp.1 h
    exact ⟨z1, z2.trans hp.2⟩
theorem TI_mv {Gd Gd' : Int64 → Prop} {σ u : XS} (h : TI Gd σ) (e1 : u.sts = σ.sts) (e2 : u.sset = σ.sset) (e3 : u.nxt = σ.nxt) (e4 : u.ends = σ.ends) (e5 : u.rul = σ.rul) (e6 : u.re = σ.re) (e7 : u.rl = σ.rl) (ho : ∀ a, a < 4 → orA u.rf u.rul &&& u.lp a = orA σ.rf σ.rul &&& σ.lp a) (hf : ∀ w a, a < 4 → Gd w → flw u.fol w u.pl &&& u.lp a = flw σ.fol w σ.pl &&& σ.lp a) (hg : ∀ w, Gd w → Gd' w) : TI Gd' u := by
  obtain ⟨h1, h2, h3, h4, h5⟩ := h
  have eo : ∀ k a, k < σ.sts → a < 4 → opn u k &&& u.lp a = opn σ k &&& σ.lp a := by
    intro k a hk ha
    unfold opn
    by_cases z : k = 0
    · rw [if_pos z, if_pos z]
      exact ho a ha
    · rw [if_neg z, if_neg z, e2]
      exact hf _ a ha (h5 k (by omega) hk)
  have ee : ∀ k, eOf u k = eOf σ k := by
    intro k
    unfold eOf
    rw [e5, e6, e7, e2]
  refine ⟨by rw [e1]; exact h1, by rw [e1]; exact h2, ?_, ?_, ?_⟩
  · intro k hk
    rw [e1] at hk
    rw [e4, ee k]
    exact h3 k hk
  · intro k a hk ha
    rw [e1] at hk
    rw [e1, e2, e3, eo k a hk ha]
    exact h4 k a hk ha
  · intro k k1 k2
    rw [e1] at k2
    rw [e2]
    exact hg _ (h5 k k1 k2)
/-- follow behind lead -/
theorem ld_fol {ow : Nat → Nat} {σ : XS} (hO : OwI ow σ) {x : Nat} (hx : x < σ.stk) (to : Int64) (p : Nat) : (ow p ≠ x → ldF σ.fol (σ.la x) to σ.pl p = σ.fol p) ∧ ∀ q, (p < σ.pl ∧ lb (ldF σ.fol (σ.la x) to σ.pl p) q = true) ↔ xF σ p q ∨ (bs (σ.la x) p ∧ bs to q) := by
  refine ⟨?_, ?_⟩
  · intro h
    rw [ldF_at, if_neg]
    rintro ⟨_, z⟩
    exact h (hO.1 x p hx (Or.inr z)).2
  · intro q
    rw [ldF_at]
    show _ ↔ (p < σ.pl ∧ lb (σ.fol p) q = true) ∨ (lb (σ.la x) p = true ∧ lb to q = true)
    by_cases e : p < σ.pl ∧ lb (σ.la x) p = true
    · rw [if_pos e, lb_or, Bool.or_eq_true]
      constructor
      · rintro ⟨z, z1 | z1⟩
        · exact Or.inl ⟨z, z1⟩
        · exact Or.inr ⟨e.2, z1⟩
      · rintro (⟨z, z1⟩ | ⟨z, z1⟩)
        · exact ⟨z, Or.inl z1⟩
        · exact ⟨e.1, Or.inr z1⟩
    · rw [if_neg e]
      constructor
      · intro z
        exact Or.inl z
      · rintro (z | ⟨z, z1⟩)
        · exact z
        · exact (e ⟨(hO.1 x p hx (Or.inr z)).1, z⟩).elim
/-- all that stays when only places of stack expressions are touched -/
theorem ow_keep {ow ow' : Nat → Nat} {σ u : XS} (hO : OwI ow σ) (X : Nat → Prop) (hX : ∀ r, ¬ X (40 + r)) (e0 : u.pl = σ.pl) (e1 : u.lp = σ.lp) (efo : ∀ p, p < σ.pl → ¬ X (ow p) → u.fol p = σ.fol p) (how : ∀ p, ¬ X (ow p) → ow' p = ow p)
    (t1 : u.sts = σ.sts) (t2 : u.sset = σ.sset) (t3 : u.nxt = σ.nxt) (t4 : u.ends = σ.ends) (t5 : u.rul = σ.rul) (t6 : u.re = σ.re) (t7 : u.rl = σ.rl) (t8 : u.rf = σ.rf) :
    (∀ k, ¬ X k → k < σ.stk → u.fi k = σ.fi k → u.la k = σ.la k → u.em k = σ.em k → ∀ f i j, (∀ n, f n < 4) → (GS u k f i j ↔ GS σ k f i j)) ∧ (∀ r f i j, r < σ.rul → (∀ n, f n < 4) → (GR u r f i j ↔ GR σ r f i j)) ∧ (TI (GdO σ.pl ow) σ → TI (GdO u.pl ow') u) ∧ (∀ r p, r < u.rul → (lb (u.rf r) p = true ∨ lb (u.rl r) p = true) → p < u.pl ∧ ow' p = 40 + r) ∧ ∀ a p, a < 4 → lb (u.lp a) p = true → p < u.pl := by
  refine ⟨?_, ?_, ?_, ?_, ?_⟩
  · intro k hk hks z1 z2 z3 f i j hf
    unfold GS
    rw [z1, z2, z3]
    exact x_fr hO (k := k) (fun p hp => hO.1 k p hks (Or.inl hp)) (by omega) (fun p h1 h2 => efo p h1 (by rw [h2]; exact hk)) (fun a p _ _ => by rw [e1]) hf i j
  · intro r f i j hr hf
    unfold GR
    rw [t6, t7, t8]
    exact x_fr hO (k := 40 + r) (fun p hp => hO.2.1 r p hr (Or.inl hp)) (by omega) (fun p h1 h2 => efo p h1 (by rw [h2]; exact hX r)) (fun a p _ _ => by rw [e1]) hf i j
  · intro hT
    have hge : ∀ p, 40 ≤ ow p → ¬ X (ow p) := by
      intro p h
      have := hX (ow p - 40)
      rw [show 40 + (ow p - 40) = ow p by omega] at this
      exact this
    refine TI_mv hT t1 t2 t3 t4 t5 t6 t7 (fun a _ => by rw [t8, t5, e1]) ?_ ?_
    · intro w a _ hw
      rw [e0, e1]
      have : flw u.fol w σ.pl = flw σ.fol w σ.pl := by
        apply lb_exti
        intro q
        rw [lb_flw, lb_flw]
        constructor
        · rintro ⟨p, z1, z2, z3⟩
          rw [efo p z1 (hge p (hw p z2).2)] at z3
          exact ⟨p, z1, z2, z3⟩
        · rintro ⟨p, z1, z2, z3⟩
          refine ⟨p, z1, z2, ?_⟩
          rw [efo p z1 (hge p (hw p z2).2)]
          exact z3
      rw [this]
    · intro w hw p hp
      obtain ⟨z1, z2⟩ := hw p hp
      rw [e0, how p (hge p z2)]
      exact ⟨z1, z2⟩
  · intro r p hr hp
    rw [t5] at hr
    rw [t8, t7] at hp
    obtain ⟨z1, z2⟩ := hO.2.1 r p hr hp
    rw [e0, how p (by rw [z2]; exact hX r)]
    exact ⟨z1, z2⟩
  · intro a p ha hp
    rw [e1] at hp
    rw [e0]
    exact hO.2.2.2 a p ha hp
-- ===== THEN =====
theorem ow_join {ow : Nat → Nat} {σ : XS} (hO : OwI ow σ) (x : Nat) (hx : σ.stk = x + 2) (hs : σ.stk ≤ 40) (u : XS) (hu : u = x_join (xs_tok σ (σ.tok + 1)) x (x + 1)) :
    ∃ ow', OwI ow' u ∧ (∀ k f i j, k < x → (∀ n, f n < 4) → (GS u k f i j ↔ GS σ k f i j)) ∧ (∀ r f i j, r < σ.rul → (∀ n, f n < 4) → (GR u r f i j ↔ GR σ r f i j)) ∧ (TI (GdO σ.pl ow) σ → TI (GdO u.pl ow') u) ∧ ∀ f i j, (∀ n, f n < 4) → (GS u x f i j ↔ ∃ k, i ≤ k ∧ k ≤ j ∧ GS σ x f i k ∧ GS σ (x + 1) f k j) := by
  have efo : u.fol = ldF σ.fol (σ.la x) (σ.fi (x + 1)) σ.pl := by subst hu; rfl
  have efi : u.fi = vp_updL σ.fi x (if σ.em x = true then σ.fi x ||| σ.fi (x + 1) else σ.fi x) := by subst hu; rfl
  have ela : u.la = vp_updL σ.la x (if σ.em (x + 1) = true then σ.la x ||| σ.la (x + 1) else σ.la (x + 1)) := by subst hu; rfl
  have eem : u.em = upB σ.em x (σ.em x && σ.em (x + 1)) := by subst hu; rfl
  have estk : u.stk = x + 1 := by subst hu; rfl
  have epl : u.pl = σ.pl := by subst hu; rfl
  have elp : u.lp = σ.lp := by subst hu; rfl
  have hfx : ∀ p, lb (u.fi x) p = true ↔ lb (σ.fi x) p = true ∨ (σ.em x = true ∧ lb (σ.fi (x + 1)) p = true) := by
    intro p
    rw [efi, pk_uLs]
    by_cases e : σ.em x = true
    · rw [if_pos e, lb_or, Bool.or_eq_true]
      exact ⟨fun h => h.imp id (fun h => ⟨e, h⟩), fun h => h.imp id (fun h => h.2)⟩
    · rw [if_neg e]
      exact ⟨Or.inl, fun h => h.elim id (fun h => (e h.1).elim)⟩
  have hlx : ∀ p, lb (u.la x) p = true ↔ (σ.em (x + 1) = true ∧ lb (σ.la x) p = true) ∨ lb (σ.la (x + 1)) p = true := by
    intro p
    rw [ela, pk_uLs]
    by_cases e : σ.em (x + 1) = true
    · rw [if_pos e, lb_or, Bool.or_eq_true]
      exact ⟨fun h => h.imp (fun h => ⟨e, h⟩) id, fun h => h.imp (fun h => h.2) id⟩
    · rw [if_neg e]
      exact ⟨Or.inr, fun h => h.elim (fun h => (e h.1).elim) id⟩
  obtain ⟨k1, k2, k3, k4, k5⟩ := ow_keep (u := u) (ow' := fun p => if ow p = x + 1 then x else ow p) hO (fun k => k = x ∨ k = x + 1) (by intro r; omega) epl elp (fun p _ h => by rw [efo]; exact (ld_fol hO (by omega) _ p).1 (fun z => h (Or.inl z))) (fun p h => if_neg (fun z => h (Or.inr z)))
    (by subst hu; rfl) (by subst hu; rfl) (by subst hu; rfl) (by subst hu; rfl) (by subst hu; rfl) (by subst hu; rfl) (by subst hu; rfl) (by subst hu; rfl)
  refine ⟨fun p => if ow p = x + 1 then x else ow p, ⟨?_, k4, ?_, k5⟩, ?_, k2, k3, ?_⟩
  · intro k p hk hp
    rw [estk] at hk
    rw [epl]
    by_cases e : k = x
    · subst e
      have : p < σ.pl ∧ (ow p = k ∨ ow p = k + 1) := by
        rcases hp with z | z
        · rcases (hfx p).mp z with z | ⟨_, z⟩
          · have := hO.1 k p (by omega) (Or.inl z); exact ⟨this.1, Or.inl this.2⟩
          · have := hO.1 (k + 1) p (by omega) (Or.inl z); exact ⟨this.1, Or.inr this.2⟩
        · rcases (hlx p).mp z with ⟨_, z⟩ | z
          · have := hO.1 k p (by omega) (Or.inr z); exact ⟨this.1, Or.inl this.2⟩
          · have := hO.1 (k + 1) p (by omega) (Or.inr z); exact ⟨this.1, Or.inr this.2⟩
      refine ⟨this.1, ?_⟩
      rcases this.2 with z | z
      · show (if ow p = k + 1 then k else ow p) = k
        rw [if_neg (by omega)]; exact z
      · exact if_pos z
    · have hp : lb (σ.fi k) p = true ∨ lb (σ.la k) p = true := by
        rw [efi, ela, pk_uLn e, pk_uLn e] at hp
        exact hp
      obtain ⟨z1, z2⟩ := hO.1 k p (by omega) hp
      refine ⟨z1, ?_⟩
      show (if ow p = x + 1 then x else ow p) = k
      rw [if_neg (by omega)]; exact z2
  · intro p q hp hq
    rw [epl] at hp
    rw [efo] at hq
    rw [epl]
    rcases ((ld_fol hO (show x < σ.stk by omega) (σ.fi (x + 1)) p).2 q).mp ⟨hp, hq⟩ with ⟨_, z⟩ | ⟨z1, z2⟩
    · obtain ⟨w1, w2⟩ := hO.2.2.1 p q hp z
      refine ⟨w1, ?_⟩
      show (if ow q = x + 1 then x else ow q) = (if ow p = x + 1 then x else ow p)
      rw [w2]
    · obtain ⟨w1, w2⟩ := hO.1 x p (by omega) (Or.inr z1)
      obtain ⟨w3, w4⟩ := hO.1 (x + 1) q (by omega) (Or.inl z2)
      refine ⟨w3, ?_⟩
      show (if ow q = x + 1 then x else ow q) = (if ow p = x + 1 then x else ow p)
      rw [if_pos w4, if_neg (by omega)]; exact w2.symm
  · intro k f i j hk hf
    exact k1 k (by omega) (by omega) (by rw [efi, pk_uLn (by omega)]) (by rw [ela, pk_uLn (by omega)]) (by rw [eem, upB_n (by omega)]) f i j hf
  · intro f i j hf
    unfold GS
    have eA : xA u = xA σ := by
      funext p a
      show (lb (u.lp a) p = true) = (lb (σ.lp a) p = true)
      rw [elp]
    rw [eA]
    refine Gl_then (ex := σ.em x = true) (ey := σ.em (x + 1) = true) (fun p => p < σ.pl ∧ ow p = x) (fun p => p < σ.pl ∧ ow p = x + 1) hf ?_ ?_ ?_ (fun p h => hO.1 x p (by omega) (Or.inl h)) (fun p h => hO.1 x p (by omega) (Or.inr h)) (fun p h => hO.1 (x + 1) p (by omega) (Or.inl h)) (fun p h => hO.1 (x + 1) p (by omega) (Or.inr h)) ?_ hlx hfx ?_ i j
    · rintro p q hp ⟨_, h⟩
      obtain ⟨z1, z2⟩ := hO.2.2.1 p q hp.1 h
      exact ⟨z1, z2.trans hp.2⟩
    · rintro p q hp ⟨_, h⟩
      obtain ⟨z1, z2⟩ := hO.2.2.1 p q hp.1 h
      exact ⟨z1, z2.trans hp.2⟩
    · intro p h1 h2
      have := h1.2
      have := h2.2
      omega
    · intro p q
      show (p < u.pl ∧ lb (u.fol p) q = true) ↔ _
      rw [epl, efo]
      exact (ld_fol hO (by omega) _ p).2 q
    · rw [eem, upB_s, Bool.and_eq_true]
-- ===== OR =====
theorem ow_or {ow : Nat → Nat} {σ : XS} (hO : OwI ow σ) (x : Nat) (hx : σ.stk = x + 2) (hs : σ.stk ≤ 40) (u : XS) (hu : u = x_or (xs_tok σ (σ.tok + 1)) x) :
    ∃ ow', OwI ow' u ∧ (∀ k f i j, k < x → (∀ n, f n < 4) → (GS u k f i j ↔ GS σ k f i j)) ∧ (∀ r f i j, r < σ.rul → (∀ n, f n < 4) → (GR u r f i j ↔ GR σ r f i j)) ∧ (TI (GdO σ.pl ow) σ → TI (GdO u.pl ow') u) ∧ ∀ f i j, (∀ n, f n < 4) → (GS u x f i j ↔ GS σ x f i j ∨ GS σ (x + 1) f i j) := by
  have efo : u.fol = σ.fol := by subst hu; rfl
  have efi : u.fi = vp_updL σ.fi x (σ.fi x ||| σ.fi (x + 1)) := by subst hu; rfl
  have ela : u.la = vp_updL σ.la x (σ.la x ||| σ.la (x + 1)) := by subst hu; rfl
  have eem : u.em = upB σ.em x (σ.em x || σ.em (x + 1)) := by subst hu; rfl
  have estk : u.stk = x + 1 := by subst hu; rfl
  have epl : u.pl = σ.pl := by subst hu; rfl
  have elp : u.lp = σ.lp := by subst hu; rfl
  have hfx : ∀ p, lb (u.fi x) p = true ↔ lb (σ.fi x) p = true ∨ lb (σ.fi (x + 1)) p = true := by
    intro p
    rw [efi, pk_uLs, lb_or, Bool.or_eq_true]
  have hlx : ∀ p, lb (u.la x) p = true ↔ lb (σ.la x) p = true ∨ lb (σ.la (x + 1)) p = true := by
    intro p
    rw [ela, pk_uLs, lb_or, Bool.or_eq_true]
  obtain ⟨k1, k2, k3, k4, k5⟩ := ow_keep (u := u) (ow' := fun p => if ow p = x + 1 then x else ow p) hO (fun k => k = x ∨ k = x + 1) (by intro r; omega) epl elp (fun p _ h => by rw [efo]) (fun p h => if_neg (fun z => h (Or.inr z)))
    (by subst hu; rfl) (by subst hu; rfl) (by subst hu; rfl) (by subst hu; rfl) (by subst hu; rfl) (by subst hu; rfl) (by subst hu; rfl) (by subst hu; rfl)
  refine ⟨fun p => if ow p = x + 1 then x else ow p, ⟨?_, k4, ?_, k5⟩, ?_, k2, k3, ?_⟩
  · intro k p hk hp
    rw [estk] at hk
    rw [epl]
    by_cases e : k = x
    · subst e
      have : p < σ.pl ∧ (ow p = k ∨ ow p = k + 1) := by
        rcases hp with z | z
        · rcases (hfx p).mp z with z | z
          · have := hO.1 k p (by omega) (Or.inl z); exact ⟨this.1, Or.inl this.2⟩
          · have := hO.1 (k + 1) p (by omega) (Or.inl z); exact ⟨this.1, Or.inr this.2⟩
        · rcases (hlx p).mp z with z | z
          · have := hO.1 k p (by omega) (Or.inr z); exact ⟨this.1, Or.inl this.2⟩
          · have := hO.1 (k + 1) p (by omega) (Or.inr z); exact ⟨this.1, Or.inr this.2⟩
      refine ⟨this.1, ?_⟩
      rcases this.2 with z | z
      · show (if ow p = k + 1 then k else ow p) = k
        rw [if_neg (by omega)]; exact z
      · exact if_pos z
    · have hp : lb (σ.fi k) p = true ∨ lb (σ.la k) p = true := by
        rw [efi, ela, pk_uLn e, pk_uLn e] at hp
        exact hp
      obtain ⟨z1, z2⟩ := hO.1 k p (by omega) hp
      refine ⟨z1, ?_⟩
      show (if ow p = x + 1 then x else ow p) = k
      rw [if_neg (by omega)]; exact z2
  · intro p q hp hq
    rw [epl] at hp
    rw [efo] at hq
    rw [epl]
    obtain ⟨w1, w2⟩ := hO.2.2.1 p q hp hq
    refine ⟨w1, ?_⟩
    show (if ow q = x + 1 then x else ow q) = (if ow p = x + 1 then x else ow p)
    rw [w2]
  · intro k f i j hk hf
    exact k1 k (by omega) (by omega) (by rw [efi, pk_uLn (by omega)]) (by rw [ela, pk_uLn (by omega)]) (by rw [eem, upB_n (by omega)]) f i j hf
  · intro f i j hf
    unfold GS
    have eA : xA u = xA σ := by
      funext p a
      show (lb (u.lp a) p = true) = (lb (σ.lp a) p = true)
      rw [elp]
    have eF : xF u = xF σ := by
      funext p q
      show (p < u.pl ∧ lb (u.fol p) q = true) = (p < σ.pl ∧ lb (σ.fol p) q = true)
      rw [epl, efo]
    rw [eA, eF]
    refine Gl_or (ex := σ.em x = true) (ey := σ.em (x + 1) = true) (fun p => p < σ.pl ∧ ow p = x) (fun p => p < σ.pl ∧ ow p = x + 1) hf ?_ ?_ ?_ (fun p h => hO.1 x p (by omega) (Or.inl h)) (fun p h => hO.1 x p (by omega) (Or.inr h)) (fun p h => hO.1 (x + 1) p (by omega) (Or.inl h)) (fun p h => hO.1 (x + 1) p (by omega) (Or.inr h)) hlx hfx ?_ i j
    · rintro p q hp ⟨_, h⟩
      obtain ⟨z1, z2⟩ := hO.2.2.1 p q hp.1 h
      exact ⟨z1, z2.trans hp.2⟩
    · rintro p q hp ⟨_, h⟩
      obtain ⟨z1, z2⟩ := hO.2.2.1 p q hp.1 h
      exact ⟨z1, z2.trans hp.2⟩
    · intro p h1 h2
      have := h1.2
      have := h2.2
      omega
    · rw [eem, upB_s, Bool.or_eq_true]
-- ===== STAR, PLUS =====
theorem ow_star {ow : Nat → Nat} {σ : XS} (hO : OwI ow σ) (x : Nat) (hx : σ.stk = x + 1) (hs : σ.stk ≤ 40) (b : Bool) (u : XS) (hu : u = x_star (xs_tok σ (σ.tok + 1)) x b) :
    ∃ ow', OwI ow' u ∧ (∀ k f i j, k < x → (∀ n, f n < 4) → (GS u k f i j ↔ GS σ k f i j)) ∧ (∀ r f i j, r < σ.rul → (∀ n, f n < 4) → (GR u r f i j ↔ GR σ r f i j)) ∧ (TI (GdO σ.pl ow) σ → TI (GdO u.pl ow') u) ∧ ∀ f i j, (∀ n, f n < 4) → (b = true → (GS u x f i j ↔ (i = j ∨ ∃ k, i < k ∧ k ≤ j ∧ GS σ x f i k ∧ GS u x f k j))) ∧ (b = false → (GS u x f i j ↔ (GS σ x f i j ∨ ∃ k, i < k ∧ k ≤ j ∧ GS σ x f i k ∧ GS u x f k j))) := by
  have efo : u.fol = ldF σ.fol (σ.la x) (σ.fi x) σ.pl := by subst hu; rfl
  have efi : u.fi = σ.fi := by subst hu; rfl
  have ela : u.la = σ.la := by subst hu; rfl
  have eem : u.em = upB σ.em x (σ.em x || b) := by subst hu; rfl
  have estk : u.stk = x + 1 := by subst hu; exact hx
  have epl : u.pl = σ.pl := by subst hu; rfl
  have elp : u.lp = σ.lp := by subst hu; rfl
  obtain ⟨k1, k2, k3, k4, k5⟩ := ow_keep (u := u) (ow' := ow) hO (fun k => k = x) (by intro r; omega) epl elp (fun p _ h => by rw [efo]; exact (ld_fol hO (by omega) _ p).1 h) (fun p h => rfl)
    (by subst hu; rfl) (by subst hu; rfl) (by subst hu; rfl) (by subst hu; rfl) (by subst hu; rfl) (by subst hu; rfl) (by subst hu; rfl) (by subst hu; rfl)
  refine ⟨ow, ⟨?_, k4, ?_, k5⟩, ?_, k2, k3, ?_⟩
  · intro k p hk hp
    rw [estk] at hk
    rw [epl]
    rw [efi, ela] at hp
    exact hO.1 k p (by omega) hp
  · intro p q hp hq
    rw [epl] at hp
    rw [efo] at hq
    rw [epl]
    rcases ((ld_fol hO (show x < σ.stk by omega) (σ.fi x) p).2 q).mp ⟨hp, hq⟩ with ⟨_, z⟩ | ⟨z1, z2⟩
    · exact hO.2.2.1 p q hp z
    · obtain ⟨w1, w2⟩ := hO.1 x p (by omega) (Or.inr z1)
      obtain ⟨w3, w4⟩ := hO.1 x q (by omega) (Or.inl z2)
      exact ⟨w3, by omega⟩
  · intro k f i j hk hf
    exact k1 k (by omega) (by omega) (by rw [efi]) (by rw [ela]) (by rw [eem, upB_n (by omega)]) f i j hf
  · intro f i j hf
    have eA : xA u = xA σ := by
      funext p a
      show (lb (u.lp a) p = true) = (lb (σ.lp a) p = true)
      rw [elp]
    have hF : ∀ p q, xF u p q ↔ xF σ p q ∨ (bs (σ.la x) p ∧ bs (σ.fi x) q) := by
      intro p q
      show (p < u.pl ∧ lb (u.fol p) q = true) ↔ _
      rw [epl, efo]
      exact (ld_fol hO (by omega) _ p).2 q
    refine ⟨?_, ?_⟩
    · rintro rfl
      unfold GS
      rw [eA, efi, ela]
      exact Gl_star hF (by rw [eem, upB_s]; simp) i j
    · rintro rfl
      unfold GS
      rw [eA, efi, ela]
      exact Gl_plus hF (by rw [eem, upB_s]; simp) i j
-- ===== EMPTY =====
theorem ow_emp {ow : Nat → Nat} {σ : XS} (hO : OwI ow σ) (hs : σ.stk < 40) (u : XS) (hu : u = x_push (xs_tok σ (σ.tok + 1)) 0 0 true) :
    ∃ ow', OwI ow' u ∧ (∀ k f i j, k < σ.stk → (∀ n, f n < 4) → (GS u k f i j ↔ GS σ k f i j)) ∧ (∀ r f i j, r < σ.rul → (∀ n, f n < 4) → (GR u r f i j ↔ GR σ r f i j)) ∧ (TI (GdO σ.pl ow) σ → TI (GdO u.pl ow') u) ∧ ∀ f i j, (∀ n, f n < 4) → (GS u σ.stk f i j ↔ i = j) := by
  have efo : u.fol = σ.fol := by subst hu; rfl
  have efi : u.fi = vp_updL σ.fi σ.stk 0 := by subst hu; rfl
  have ela : u.la = vp_updL σ.la σ.stk 0 := by subst hu; rfl
  have eem : u.em = upB σ.em σ.stk true := by subst hu; rfl
  have estk : u.stk = σ.stk + 1 := by subst hu; rfl
  have epl : u.pl = σ.pl := by subst hu; rfl
  have elp : u.lp = σ.lp := by subst hu; rfl
  obtain ⟨k1, k2, k3, k4, k5⟩ := ow_keep (u := u) (ow' := ow) hO (fun k => k = σ.stk) (by intro r; omega) epl elp (fun p _ h => by rw [efo]) (fun p h => rfl)
    (by subst hu; rfl) (by subst hu; rfl) (by subst hu; rfl) (by subst hu; rfl) (by subst hu; rfl) (by subst hu; rfl) (by subst hu; rfl) (by subst hu; rfl)
  refine ⟨ow, ⟨?_, k4, ?_, k5⟩, ?_, k2, k3, ?_⟩
  · intro k p hk hp
    rw [estk] at hk
    rw [epl]
    by_cases e : k = σ.stk
    · subst e
      rw [efi, ela, pk_uLs, pk_uLs, lb_0] at hp
      exact absurd hp (by decide)
    · rw [efi, ela, pk_uLn e, pk_uLn e] at hp
      exact hO.1 k p (by omega) hp
  · intro p q hp hq
    rw [epl] at hp
    rw [efo] at hq
    rw [epl]
    exact hO.2.2.1 p q hp hq
  · intro k f i j hk hf
    exact k1 k (by omega) hk (by rw [efi, pk_uLn (by omega)]) (by rw [ela, pk_uLn (by omega)]) (by rw [eem, upB_n (by omega)]) f i j hf
  · intro f i j hf
    constructor
    · rintro (⟨z, _⟩ | ⟨n, p, _, z, _⟩)
      · exact z
      · have z : lb (u.fi σ.stk) p = true := z
        rw [efi, pk_uLs, lb_0] at z
        exact absurd z (by decide)
    · intro z
      exact Or.inl ⟨z, by rw [eem, upB_s]⟩
-- ===== LETTER, ANY =====
theorem ow_place {ow : Nat → Nat} {σ : XS} (hO : OwI ow σ) (hs : σ.stk < 40) (hp : σ.pl < 40) (ls : Nat) (u : XS) (hu : u = x_pushPlace (xs_tok σ (σ.tok + 1)) ls) :
    ∃ ow', OwI ow' u ∧ (∀ k f i j, k < σ.stk → (∀ n, f n < 4) → (GS u k f i j ↔ GS σ k f i j)) ∧ (∀ r f i j, r < σ.rul → (∀ n, f n < 4) → (GR u r f i j ↔ GR σ r f i j)) ∧ (TI (GdO σ.pl ow) σ → TI (GdO u.pl ow') u) ∧ ∀ f i j, (∀ n, f n < 4) → (GS u σ.stk f i j ↔ j = i + 1 ∧ ls.testBit (f i) = true) := by
  have efo : u.fol = vp_updL σ.fol σ.pl 0 := by subst hu; rfl
  have efi : u.fi = vp_updL σ.fi σ.stk (b1 σ.pl) := by subst hu; rfl
  have ela : u.la = vp_updL σ.la σ.stk (b1 σ.pl) := by subst hu; rfl
  have eem : u.em = upB σ.em σ.stk false := by subst hu; rfl
  have estk : u.stk = σ.stk + 1 := by subst hu; rfl
  have epl : u.pl = σ.pl + 1 := by subst hu; rfl
  have elp : u.lp = ppF σ.lp ls σ.pl 4 := by subst hu; rfl
  have erf : u.rf = σ.rf := by subst hu; rfl
  have erl : u.rl = σ.rl := by subst hu; rfl
  have ere : u.re = σ.re := by subst hu; rfl
  have erul : u.rul = σ.rul := by subst hu; rfl
  have hb : ∀ p, lb (b1 σ.pl) p = true ↔ p = σ.pl := by
    intro p
    rw [lb_b1 (by omega), decide_eq_true_eq]
    exact ⟨fun h => h.symm, fun h => h.symm⟩
  have hlp : ∀ a p, a < 4 → (lb (u.lp a) p = true ↔ lb (σ.lp a) p = true ∨ (p = σ.pl ∧ ls.testBit a = true)) := by
    intro a p ha
    rw [elp, ppF_at, if_pos ha, lb_or, Bool.or_eq_true]
    by_cases e : ls.testBit a = true
    · rw [if_pos e, hb]
      exact ⟨fun h => h.imp id (fun h => ⟨h, e⟩), fun h => h.imp id (fun h => h.1)⟩
    · rw [if_neg e, lb_0]
      exact ⟨fun h => h.elim Or.inl (fun h => absurd h (by decide)), fun h => h.elim Or.inl (fun h => (e h.2).elim)⟩
  have hlq : ∀ a p, a < 4 → p < σ.pl → lb (u.lp a) p = lb (σ.lp a) p := by
    intro a p ha h
    rw [Bool.eq_iff_iff, hlp a p ha]
    exact ⟨fun h => h.elim id (fun h => absurd h.1 (by omega)), Or.inl⟩
  have hfq : ∀ p, p < σ.pl → u.fol p = σ.fol p := by
    intro p h
    rw [efo, pk_uLn (by omega)]
  refine ⟨upN ow σ.pl σ.stk, ⟨?_, ?_, ?_, ?_⟩, ?_, ?_, ?_, ?_⟩
  · intro k p hk hp
    rw [estk] at hk
    rw [epl]
    by_cases e : k = σ.stk
    · subst e
      rw [efi, ela, pk_uLs, pk_uLs, hb] at hp
      obtain rfl : p = σ.pl := hp.elim id id
      exact ⟨by omega, upN_s⟩
    · rw [efi, ela, pk_uLn e, pk_uLn e] at hp
      obtain ⟨z1, z2⟩ := hO.1 k p (by omega) hp
      exact ⟨by omega, by rw [upN_n (by omega)]; exact z2⟩
  · intro r p hr hp
    rw [erul] at hr
    rw [erf, erl] at hp
    rw [epl]
    obtain ⟨z1, z2⟩ := hO.2.1 r p hr hp
    exact ⟨by omega, by rw [upN_n (by omega)]; exact z2⟩
  · intro p q hp hq
    rw [epl] at hp
    rw [epl]
    by_cases e : p = σ.pl
    · subst e
      rw [efo, pk_uLs, lb_0] at hq
      exact absurd hq (by decide)
    · rw [hfq p (by omega)] at hq
      obtain ⟨z1, z2⟩ := hO.2.2.1 p q (by omega) hq
      exact ⟨by omega, by rw [upN_n (by omega), upN_n (by omega)]; exact z2⟩
  · intro a p ha hp
    rw [epl]
    rcases (hlp a p ha).mp hp with z | z
    · have := hO.2.2.2 a p ha z
      omega
    · omega
  · intro k f i j hk hf
    unfold GS
    rw [efi, ela, eem, pk_uLn (by omega), pk_uLn (by omega), upB_n (by omega)]
    exact x_fr hO (k := k) (fun p hp => hO.1 k p hk (Or.inl hp)) (by omega) (fun p h1 _ => hfq p h1) (fun a p ha h => hlq a p ha h) hf i j
  · intro r f i j hr hf
    unfold GR
    rw [erf, erl, ere]
    exact x_fr hO (k := 40 + r) (fun p hp => hO.2.1 r p hr (Or.inl hp)) (by omega) (fun p h1 _ => hfq p h1) (fun a p ha h => hlq a p ha h) hf i j
  · intro hT
    refine TI_mv hT (by subst hu; rfl) (by subst hu; rfl) (by subst hu; rfl) (by subst hu; rfl) erul ere erl ?_ ?_ ?_
    · intro a ha
      rw [erf, erul]
      apply lb_exti
      intro p
      rw [lb_and, lb_and, Bool.and_eq_true, Bool.and_eq_true]
      constructor
      · rintro ⟨z1, z2⟩
        obtain ⟨r, hr, z3⟩ := (lb_orA σ.rf p σ.rul).mp z1
        rw [hlq a p ha (hO.2.1 r p hr (Or.inl z3)).1] at z2
        exact ⟨z1, z2⟩
      · rintro ⟨z1, z2⟩
        exact ⟨z1, (hlp a p ha).mpr (Or.inl z2)⟩
    · intro w a ha hw
      apply lb_exti
      intro p
      rw [lb_and, lb_and, Bool.and_eq_true, Bool.and_eq_true, lb_flw, lb_flw]
      constructor
      · rintro ⟨⟨q, z1, z2, z3⟩, z4⟩
        have hq := (hw q z2).1
        rw [hfq q hq] at z3
        rw [hlq a p ha (hO.2.2.1 q p hq z3).1] at z4
        exact ⟨⟨q, hq, z2, z3⟩, z4⟩
      · rintro ⟨⟨q, z1, z2, z3⟩, z4⟩
        refine ⟨⟨q, by omega, z2, by rw [hfq q z1]; exact z3⟩, (hlp a p ha).mpr (Or.inl z4)⟩
    · intro w hw p hp
      obtain ⟨z1, z2⟩ := hw p hp
      rw [epl]
      exact ⟨by omega, by rw [upN_n (by omega)]; exact z2⟩
  · intro f i j hf
    have hA : xA u σ.pl (f i) ↔ ls.testBit (f i) = true := by
      show lb (u.lp (f i)) σ.pl = true ↔ _
      rw [hlp _ _ (hf i)]
      constructor
      · rintro (z | z)
        · have := hO.2.2.2 (f i) σ.pl (hf i) z
          omega
        · exact z.2
      · intro z
        exact Or.inr ⟨rfl, z⟩
    constructor
    · rintro (⟨_, z⟩ | ⟨n, p, z1, z2, z3⟩)
      · rw [eem, upB_s] at z
        exact absurd z (by decide)
      · have z2 : lb (u.fi σ.stk) p = true := z2
        rw [efi, pk_uLs, hb] at z2
        subst z2
        cases n with
        | zero => exact ⟨z1, hA.mp z3.1⟩
        | succ n =>
          obtain ⟨_, q, ⟨_, z4⟩, _⟩ := z3
          rw [efo, pk_uLs, lb_0] at z4
          exact absurd z4 (by decide)
    · rintro ⟨z1, z2⟩
      refine Or.inr ⟨0, σ.pl, z1, ?_, hA.mpr z2, ?_⟩
      · show lb (u.fi σ.stk) σ.pl = true
        rw [efi, pk_uLs, hb]
      · show lb (u.la σ.stk) σ.pl = true
        rw [ela, pk_uLs, hb]
-- ===== RULE =====
theorem ow_rule {ow : Nat → Nat} {σ : XS} (hO : OwI ow σ) (x : Nat) (hx : σ.stk = x + 1) (hs : σ.stk ≤ 40) (u : XS) (hu : u = x_rule (xs_tok σ (σ.tok + 1)) x) :
    ∃ ow', OwI ow' u ∧ (∀ k f i j, k < x → (∀ n, f n < 4) → (GS u k f i j ↔ GS σ k f i j)) ∧ (∀ r f i j, r < σ.rul → (∀ n, f n < 4) → (GR u r f i j ↔ GR σ r f i j)) ∧ TI (GdO u.pl ow') u ∧ ∀ f i j, (∀ n, f n < 4) → (GR u σ.rul f i j ↔ GS σ x f i j) := by
  have efo : u.fol = σ.fol := by subst hu; rfl
  have efi : u.fi = σ.fi := by subst hu; rfl
  have ela : u.la = σ.la := by subst hu; rfl
  have eem : u.em = σ.em := by subst hu; rfl
  have estk : u.stk = x := by subst hu; rfl
  have epl : u.pl = σ.pl := by subst hu; rfl
  have elp : u.lp = σ.lp := by subst hu; rfl
  have erf : u.rf = vp_updL σ.rf σ.rul (σ.fi x) := by subst hu; rfl
  have erl : u.rl = vp_updL σ.rl σ.rul (σ.la x) := by subst hu; rfl
  have ere : u.re = upB σ.re σ.rul (σ.em x) := by subst hu; rfl
  have erul : u.rul = σ.rul + 1 := by subst hu; rfl
  have eA : xA u = xA σ := by
    funext p a
    show (lb (u.lp a) p = true) = (lb (σ.lp a) p = true)
    rw [elp]
  have eF : xF u = xF σ := by
    funext p q
    show (p < u.pl ∧ lb (u.fol p) q = true) = (p < σ.pl ∧ lb (σ.fol p) q = true)
    rw [epl, efo]
  refine ⟨fun p => if ow p = x then 40 + σ.rul else ow p, ⟨?_, ?_, ?_, ?_⟩, ?_, ?_, ?_, ?_⟩
  · intro k p hk hp
    rw [estk] at hk
    rw [efi, ela] at hp
    rw [epl]
    obtain ⟨z1, z2⟩ := hO.1 k p (by omega) hp
    refine ⟨z1, ?_⟩
    show (if ow p = x then 40 + σ.rul else ow p) = k
    rw [if_neg (by omega)]; exact z2
  · intro r p hr hp
    rw [erul] at hr
    rw [epl]
    by_cases e : r = σ.rul
    · subst e
      rw [erf, erl, pk_uLs, pk_uLs] at hp
      obtain ⟨z1, z2⟩ := hO.1 x p (by omega) hp
      exact ⟨z1, if_pos z2⟩
    · rw [erf, erl, pk_uLn e, pk_uLn e] at hp
      obtain ⟨z1, z2⟩ := hO.2.1 r p (by omega) hp
      refine ⟨z1, ?_⟩
      show (if ow p = x then 40 + σ.rul else ow p) = 40 + r
      rw [if_neg (by omega)]; exact z2
  · intro p q hp hq
    rw [epl] at hp
    rw [efo] at hq
    rw [epl]
    obtain ⟨z1, z2⟩ := hO.2.2.1 p q hp hq
    refine ⟨z1, ?_⟩
    show (if ow q = x then 40 + σ.rul else ow q) = (if ow p = x then 40 + σ.rul else ow p)
    rw [z2]
  · intro a p ha hp
    rw [elp] at hp
    rw [epl]
    exact hO.2.2.2 a p ha hp
  · intro k f i j _ _
    unfold GS
    rw [eA, eF, efi, ela, eem]
  · intro r f i j hr _
    unfold GR
    rw [eA, eF, erf, erl, ere, pk_uLn (by omega), pk_uLn (by omega), upB_n (by omega)]
  · subst hu
    exact TI_empty _ _
  · intro f i j _
    unfold GR GS
    rw [eA, eF, erf, erl, ere, pk_uLs, pk_uLs, upB_s]
end OW
end
section
set_option maxRecDepth 100000
section IV
def upL (Lt : LT) (t : Nat) (P : (Nat → Nat) → Nat → Nat → Prop) : LT := fun s => if s = t then P else Lt s
theorem upL_s {Lt : LT} {t : Nat} {P : (Nat → Nat) → Nat → Nat → Prop} : upL Lt t P t = P := if_pos rfl
theorem upL_n {Lt : LT} {t s : Nat} {P : (Nat → Nat) → Nat → Nat → Prop} (h : s ≠ t) : upL Lt t P s = Lt s := if_neg h
theorem RcE_up {τ w : MS} {Lt : LT} {P : (Nat → Nat) → Nat → Nat → Prop} (h : RcE τ Lt) (k a : Nat) (e1 : w.tok = τ.tok + 1) (ec : w.cod = upN τ.cod τ.tok k) (ea : w.arg = upN τ.arg τ.tok a) (el : ∀ t, t ≠ τ.tok → w.lef t = τ.lef t) (er : ∀ t, t ≠ τ.tok → w.rig t = τ.rig t) (hl : (k = 3 ∨ k = 4) → w.lef τ.tok < τ.tok) (hr : 3 ≤ k → w.rig τ.tok < τ.tok)
    (hq : ∀ f, (∀ n, f n < 4) → ∀ i j, i ≤ j → (P f i j ↔ Rq k a (w.lef τ.tok) (w.rig τ.tok) τ.tok (f i) (fun t => upL Lt τ.tok P t f) i j)) : RcE w (upL Lt τ.tok P) := by
  intro t ht
  rw [e1] at ht
  by_cases e : t = τ.tok
  · subst e
    rw [ec, ea, upN_s, upN_s, upL_s]
    exact ⟨hl, hr, hq⟩
  · obtain ⟨h1, h2, h3⟩ := h t (by omega)
    rw [ec, ea, upN_n e, upN_n e, el t e, er t e, upL_n e]
    refine ⟨h1, h2, fun f hf i j hij => ?_⟩
    rw [h3 f hf i j hij]
    refine Rq_cg hij (fun _ => rfl) ?_ ?_ ?_
    · intro z p q _ _ _
      have := h1 z
      show Lt _ f p q ↔ upL Lt τ.tok P _ f p q
      rw [upL_n (by omega)]
    · intro z p q _ _ _
      have := h2 z
      show Lt _ f p q ↔ upL Lt τ.tok P _ f p q
      rw [upL_n (by omega)]
    · intro k _ _
      show Lt t f k j ↔ upL Lt τ.tok P t f k j
      rw [upL_n e]
/-- what holds between the two objects at the head of the law's loop -/
def Inv (Lt : LT) (ow : Nat → Nat) (σ : XS) (τ : MS) : Prop :=
  (σ.tok = τ.tok ∧ σ.stk = τ.hei ∧ σ.rul = τ.rul ∧ σ.tl = τ.len ∧ σ.txt = τ.txt) ∧ (σ.tok ≤ 40 ∧ σ.stk ≤ σ.tok ∧ σ.pl ≤ σ.tok ∧ σ.rul ≤ 5 ∧ σ.tl ≤ 30 ∧ ∀ k, σ.txt k < 4) ∧ ((∀ k, k < τ.hei → τ.stk k < τ.tok) ∧ ∀ r, r < τ.rul → τ.rof r < τ.tok) ∧ RcE τ Lt ∧ OwI ow σ ∧ (∀ k f i j, k < σ.stk → (∀ n, f n < 4) → (GS σ k f i j ↔ Lt (τ.stk k) f i j)) ∧ (∀ r f i j, r < σ.rul → (∀ n, f n < 4) → (GR σ r f i j ↔ Lt (τ.rof r) f i j)) ∧ TI (GdO σ.pl ow) σ ∧ mOk τ
theorem tok_new {Lt : LT} {ow ow' : Nat → Nat} {σ u : XS} {τ w : MS} (I : Inv Lt ow σ τ) (ht : σ.tok < 40) (x k a : Nat) (hk : k ≤ 7) (ha : a < 4) (hxs : x ≤ σ.stk)
    (s1 : u.tok = σ.tok + 1) (s2 : u.stk = x + 1) (s3 : u.rul = σ.rul) (s4 : u.tl = σ.tl) (s5 : u.txt = σ.txt) (s6 : u.pl ≤ σ.tok + 1)
    (m1 : w.tok = τ.tok + 1) (m2 : w.hei = x + 1) (m3 : w.rul = τ.rul) (m4 : w.len = τ.len) (m5 : w.txt = τ.txt) (m6 : w.stk = upN τ.stk x τ.tok) (m7 : w.rof = τ.rof) (m8 : w.cod = upN τ.cod τ.tok k) (m9 : w.arg = upN τ.arg τ.tok a) (m10 : w.row = τ.row)
    (l1 : ∀ t, t ≠ τ.tok → w.lef t = τ.lef t) (l2 : w.lef τ.tok < 40) (l3 : (k = 3 ∨ k = 4) → w.lef τ.tok < τ.tok) (r1 : ∀ t, t ≠ τ.tok → w.rig t = τ.rig t) (r2 : w.rig τ.tok < 40) (r3 : 3 ≤ k → w.rig τ.tok < τ.tok)
    (hO : OwI ow' u) (hS : ∀ k f i j, k < x → (∀ n, f n < 4) → (GS u k f i j ↔ GS σ k f i j)) (hR : ∀ r f i j, r < σ.rul → (∀ n, f n < 4) → (GR u r f i j ↔ GR σ r f i j)) (hT : TI (GdO σ.pl ow) σ → TI (GdO u.pl ow') u)
    (hQ : ∀ f, (∀ n, f n < 4) → ∀ i j, i ≤ j → (GS u x f i j ↔ Rq k a (w.lef τ.tok) (w.rig τ.tok) τ.tok (f i) (fun t => upL Lt τ.tok (GS u x) t f) i j)) : Inv (upL Lt τ.tok (GS u x)) ow' u w := by
  obtain ⟨⟨a1, a2, a3, a4, a5⟩, ⟨b1, b2, b3, b4, b5, b6⟩, ⟨c1, c2⟩, cR, cO, cS, cG, cT, cM⟩ := I
  refine ⟨⟨by rw [s1, m1, a1], by rw [s2, m2], by rw [s3, m3, a3], by rw [s4, m4, a4], by rw [s5, m5, a5]⟩, ⟨by omega, by omega, by omega, by omega, by omega, by rw [s5]; exact b6⟩, ⟨?_, ?_⟩, RcE_up cR k a m1 m8 m9 l1 r1 l3 r3 hQ, hO, ?_, ?_, hT cT, ?_⟩
  · intro q hq
    rw [m2] at hq
    rw [m6, m1]
    by_cases e : q = x
    · subst e
      rw [upN_s]
      omega
    · rw [upN_n e]
      have := c1 q (by omega)
      omega
  · intro r hr
    rw [m3] at hr
    rw [m7, m1]
    have := c2 r hr
    omega
  · intro q f i j hq hf
    rw [s2] at hq
    rw [m6]
    by_cases e : q = x
    · subst e
      rw [upN_s, upL_s]
    · rw [upN_n e, upL_n (by have := c1 q (by omega); omega), hS q f i j (by omega) hf]
      exact cS q f i j (by omega) hf
  · intro r f i j hr hf
    rw [s3] at hr
    rw [m7, upL_n (by have := c2 r (by omega); omega), hR r f i j hr hf]
    exact cG r f i j hr hf
  · refine ⟨?_, by rw [m10]; exact cM.2⟩
    intro t h40
    by_cases e : t = τ.tok
    · subst e
      rw [m8, m9, upN_s, upN_s]
      exact ⟨l2, r2, hk, ha⟩
    · rw [m8, m9, upN_n e, upN_n e, l1 t e, r1 t e]
      exact cM.1 t h40
theorem tok_rule {Lt : LT} {ow : Nat → Nat} {σ u : XS} {τ w : MS} (I : Inv Lt ow σ τ) (ht : σ.tok < 40) (hr5 : σ.rul < 5) (x a : Nat) (ha : a < 4) (hx : σ.stk = x + 1) (hu : u = x_rule (xs_tok σ (σ.tok + 1)) x) (hw : w = m_t7 τ a x) : ∃ Lt' ow', Inv Lt' ow' u w := by
  obtain ⟨⟨a1, a2, a3, a4, a5⟩, ⟨b1, b2, b3, b4, b5, b6⟩, ⟨c1, c2⟩, cR, cO, cS, cG, cT, cM⟩ := I
  obtain ⟨ow', hO, hS, hR, hT, hG⟩ := ow_rule cO x hx (by omega) u hu
  have hstk : τ.stk x < τ.tok := c1 x (by omega)
  refine ⟨upL Lt τ.tok (fun _ _ _ => False), ow', ⟨by subst hu; subst hw; exact congrArg (· + 1) a1, by subst hu; subst hw; rfl, by subst hu; subst hw; exact congrArg (· + 1) a3, by subst hu; subst hw; exact a4, by subst hu; subst hw; exact a5⟩, ⟨?_, ?_, ?_, ?_, ?_, ?_⟩, ⟨?_, ?_⟩, RcE_up cR 7 a ?_ ?_ ?_ ?_ ?_ ?_ ?_ ?_, hO, ?_, ?_, hT, ?_⟩
  · subst hu; show σ.tok + 1 ≤ 40; omega
  · subst hu; show x ≤ σ.tok + 1; omega
  · subst hu; show σ.pl ≤ σ.tok + 1; omega
  · subst hu; show σ.rul + 1 ≤ 5; omega
  · subst hu; exact b5
  · subst hu; exact b6
  · subst hw
    intro q hq
    have hq : q < x := hq
    show τ.stk q < τ.tok + 1
    have := c1 q (by omega)
    omega
  · subst hw
    intro r hr
    have hr : r < τ.rul + 1 := hr
    show upN τ.rof τ.rul (τ.stk x) r < τ.tok + 1
    by_cases e : r = τ.rul
    · subst e; rw [upN_s]; omega
    · rw [upN_n e]
      have := c2 r (by omega)
      omega
  · subst hw; rfl
  · subst hw; rfl
  · subst hw; rfl
  · subst hw; intro t _; rfl
  · subst hw; intro t e; exact upN_n e
  · intro h; omega
  · subst hw
    intro _
    show upN τ.rig τ.tok (τ.stk x) τ.tok < τ.tok
    rw [upN_s]
    exact hstk
  · intro f _ i j _
    exact ⟨False.elim, fun h => absurd h Rq_7⟩
  · intro q f i j hq hf
    have hq : q < x := by subst hu; exact hq
    have e : w.stk q = τ.stk q := by subst hw; rfl
    rw [e, upL_n (by have := c1 q (by omega); omega), hS q f i j hq hf]
    exact cS q f i j (by omega) hf
  · intro r f i j hr hf
    have hr : r < σ.rul + 1 := by subst hu; exact hr
    have e : w.rof = upN τ.rof τ.rul (τ.stk x) := by subst hw; rfl
    rw [e, ← a3]
    by_cases e2 : r = σ.rul
    · subst e2
      rw [upN_s, upL_n (by omega), hG f i j hf]
      exact cS x f i j (by omega) hf
    · rw [upN_n e2, upL_n (by have := c2 r (by omega); omega), hR r f i j (by omega) hf]
      exact cG r f i j (by omega) hf
  · subst hw
    refine ⟨fun t h40 => ?_, cM.2⟩
    show τ.lef t < 40 ∧ upN τ.rig τ.tok (τ.stk x) t < 40 ∧ upN τ.cod τ.tok 7 t ≤ 7 ∧ upN τ.arg τ.tok a t < 4
    by_cases e : t = τ.tok
    · subst e
      rw [upN_s, upN_s, upN_s]
      exact ⟨(cM.1 _ h40).1, by omega, by omega, ha⟩
    · rw [upN_n e, upN_n e, upN_n e]
      exact cM.1 t h40
theorem tb15 : ∀ n, n < 4 → (15 : Nat).testBit n = true := by decide
theorem tok_inv {Lt : LT} {ow : Nat → Nat} {σ u : XS} {τ w : MS} (I : Inv Lt ow σ τ) {k a : Nat} (ha : a < 4) (ht : σ.tok < 40) (h7 : k = 7 → σ.rul < 5) (h1 : tkR σ k a u) (h2 : mkR τ k a w) : ∃ Lt' ow', Inv Lt' ow' u w := by
  have I0 := I
  obtain ⟨⟨a1, a2, a3, a4, a5⟩, ⟨b1, b2, b3, b4, b5, b6⟩, ⟨c1, c2⟩, cR, cO, cS, cG, cT, cM⟩ := I0
  have hm := cM.1 τ.tok (by omega)
  rcases h1 with ⟨hk, hu⟩ | ⟨hk, hu⟩ | ⟨hk, hu⟩ | ⟨hk, x, hx, hu⟩ | ⟨hk, x, hx, hu⟩ | ⟨hk, x, hx, hu⟩ | ⟨hk, x, hx, hu⟩
  · subst hk
    have hw : w = m_t0 τ 0 a := by
      rcases h2 with ⟨_, h⟩ | ⟨h, _⟩ | ⟨h, _⟩ | ⟨h, _⟩
      · exact h
      all_goals omega
    obtain ⟨ow', hO, hS, hR, hT, hQ⟩ := ow_place cO (by omega) (by omega) (2 ^ a) u hu
    refine ⟨_, ow', tok_new I ht σ.stk 0 a (by omega) ha (Nat.le_refl _) (by subst hu; rfl) (by subst hu; rfl) (by subst hu; rfl) (by subst hu; rfl) (by subst hu; rfl) (by subst hu; show σ.pl + 1 ≤ σ.tok + 1; omega) (by subst hw; rfl) (by rw [a2]; subst hw; rfl) (by subst hw; rfl) (by subst hw; rfl) (by subst hw; rfl) (by rw [a2]; subst hw; rfl) (by subst hw; rfl) (by subst hw; rfl) (by subst hw; rfl) (by subst hw; rfl) (by subst hw; intro t _; rfl) (by subst hw; exact hm.1) (by omega) (by subst hw; intro t _; rfl) (by subst hw; exact hm.2.1) (by omega) hO hS hR hT ?_⟩
    intro f hf i j _
    rw [hQ f i j hf, Rq_0, Nat.testBit_two_pow, decide_eq_true_eq]
    exact ⟨fun h => ⟨h.1, h.2.symm⟩, fun h => ⟨h.1, h.2.symm⟩⟩
  · subst hk
    have hw : w = m_t0 τ 1 a := by
      rcases h2 with ⟨_, h⟩ | ⟨h, _⟩ | ⟨h, _⟩ | ⟨h, _⟩
      · exact h
      all_goals omega
    obtain ⟨ow', hO, hS, hR, hT, hQ⟩ := ow_place cO (by omega) (by omega) 15 u hu
    refine ⟨_, ow', tok_new I ht σ.stk 1 a (by omega) ha (Nat.le_refl _) (by subst hu; rfl) (by subst hu; rfl) (by subst hu; rfl) (by subst hu; rfl) (by subst hu; rfl) (by subst hu; show σ.pl + 1 ≤ σ.tok + 1; omega) (by subst hw; rfl) (by rw [a2]; subst hw; rfl) (by subst hw; rfl) (by subst hw; rfl) (by subst hw; rfl) (by rw [a2]; subst hw; rfl) (by subst hw; rfl) (by subst hw; rfl) (by subst hw; rfl) (by subst hw; rfl) (by subst hw; intro t _; rfl) (by subst hw; exact hm.1) (by omega) (by subst hw; intro t _; rfl) (by subst hw; exact hm.2.1) (by omega) hO hS hR hT ?_⟩
    intro f hf i j _
    rw [hQ f i j hf, Rq_1]
    exact ⟨fun h => h.1, fun h => ⟨h, tb15 _ (hf i)⟩⟩
  · subst hk
    have hw : w = m_t0 τ 2 a := by
      rcases h2 with ⟨_, h⟩ | ⟨h, _⟩ | ⟨h, _⟩ | ⟨h, _⟩
      · exact h
      all_goals omega
    obtain ⟨ow', hO, hS, hR, hT, hQ⟩ := ow_emp cO (by omega) u hu
    refine ⟨_, ow', tok_new I ht σ.stk 2 a (by omega) ha (Nat.le_refl _) (by subst hu; rfl) (by subst hu; rfl) (by subst hu; rfl) (by subst hu; rfl) (by subst hu; rfl) (by subst hu; show σ.pl ≤ σ.tok + 1; omega) (by subst hw; rfl) (by rw [a2]; subst hw; rfl) (by subst hw; rfl) (by subst hw; rfl) (by subst hw; rfl) (by rw [a2]; subst hw; rfl) (by subst hw; rfl) (by subst hw; rfl) (by subst hw; rfl) (by subst hw; rfl) (by subst hw; intro t _; rfl) (by subst hw; exact hm.1) (by omega) (by subst hw; intro t _; rfl) (by subst hw; exact hm.2.1) (by omega) hO hS hR hT ?_⟩
    intro f hf i j _
    rw [hQ f i j hf, Rq_2]
  · subst hk
    have hw : w = m_t2 τ 3 a x := by
      rcases h2 with ⟨h, _⟩ | ⟨_, y, hy, h⟩ | ⟨h, _⟩ | ⟨h, _⟩
      · omega
      · obtain rfl : y = x := by omega
        exact h
      all_goals omega
    have el : w.lef = upN τ.lef τ.tok (τ.stk x) := by subst hw; rfl
    have er : w.rig = upN τ.rig τ.tok (τ.stk (x + 1)) := by subst hw; rfl
    have d1 := c1 x (by omega)
    have d2 := c1 (x + 1) (by omega)
    obtain ⟨ow', hO, hS, hR, hT, hQ⟩ := ow_join cO x hx (by omega) u hu
    refine ⟨_, ow', tok_new I ht x 3 a (by omega) ha (by omega) (by subst hu; rfl) (by subst hu; rfl) (by subst hu; rfl) (by subst hu; rfl) (by subst hu; rfl) (by subst hu; show σ.pl ≤ σ.tok + 1; omega) (by subst hw; rfl) (by subst hw; rfl) (by subst hw; rfl) (by subst hw; rfl) (by subst hw; rfl) (by subst hw; rfl) (by subst hw; rfl) (by subst hw; rfl) (by subst hw; rfl) (by subst hw; rfl) (by rw [el]; intro t e; exact upN_n e) (by rw [el, upN_s]; omega) (by rw [el, upN_s]; omega) (by rw [er]; intro t e; exact upN_n e) (by rw [er, upN_s]; omega) (by rw [er, upN_s]; omega) hO hS hR hT ?_⟩
    intro f hf i j _
    rw [hQ f i j hf, Rq_3, el, er, upN_s, upN_s, upL_n (by omega), upL_n (by omega)]
    constructor
    · rintro ⟨k, z1, z2, z3, z4⟩
      exact ⟨k, z1, z2, (cS x f i k (by omega) hf).mp z3, (cS (x + 1) f k j (by omega) hf).mp z4⟩
    · rintro ⟨k, z1, z2, z3, z4⟩
      exact ⟨k, z1, z2, (cS x f i k (by omega) hf).mpr z3, (cS (x + 1) f k j (by omega) hf).mpr z4⟩
  · subst hk
    have hw : w = m_t2 τ 4 a x := by
      rcases h2 with ⟨h, _⟩ | ⟨_, y, hy, h⟩ | ⟨h, _⟩ | ⟨h, _⟩
      · omega
      · obtain rfl : y = x := by omega
        exact h
      all_goals omega
    have el : w.lef = upN τ.lef τ.tok (τ.stk x) := by subst hw; rfl
    have er : w.rig = upN τ.rig τ.tok (τ.stk (x + 1)) := by subst hw; rfl
    have d1 := c1 x (by omega)
    have d2 := c1 (x + 1) (by omega)
    obtain ⟨ow', hO, hS, hR, hT, hQ⟩ := ow_or cO x hx (by omega) u hu
    refine ⟨_, ow', tok_new I ht x 4 a (by omega) ha (by omega) (by subst hu; rfl) (by subst hu; rfl) (by subst hu; rfl) (by subst hu; rfl) (by subst hu; rfl) (by subst hu; show σ.pl ≤ σ.tok + 1; omega) (by subst hw; rfl) (by subst hw; rfl) (by subst hw; rfl) (by subst hw; rfl) (by subst hw; rfl) (by subst hw; rfl) (by subst hw; rfl) (by subst hw; rfl) (by subst hw; rfl) (by subst hw; rfl) (by rw [el]; intro t e; exact upN_n e) (by rw [el, upN_s]; omega) (by rw [el, upN_s]; omega) (by rw [er]; intro t e; exact upN_n e) (by rw [er, upN_s]; omega) (by rw [er, upN_s]; omega) hO hS hR hT ?_⟩
    intro f hf i j _
    rw [hQ f i j hf, Rq_4, el, er, upN_s, upN_s, upL_n (by omega), upL_n (by omega), cS x f i j (by omega) hf, cS (x + 1) f i j (by omega) hf]
  · subst hk
    have hw : w = m_t7 τ a x := by
      rcases h2 with ⟨h, _⟩ | ⟨h, _⟩ | ⟨h, _⟩ | ⟨_, y, hy, h⟩
      · omega
      · omega
      · omega
      · obtain rfl : y = x := by omega
        exact h
    exact tok_rule I ht (h7 rfl) x a ha hx hu hw
  · have hw : w = m_t1 τ k a x := by
      rcases h2 with ⟨h, _⟩ | ⟨h, _⟩ | ⟨_, y, hy, h⟩ | ⟨h, _⟩
      · omega
      · omega
      · obtain rfl : y = x := by omega
        exact h
      · omega
    have er : w.rig = upN τ.rig τ.tok (τ.stk x) := by subst hw; rfl
    have d1 := c1 x (by omega)
    obtain ⟨ow', hO, hS, hR, hT, hQ⟩ := ow_star cO x hx (by omega) (k == 5) u hu
    refine ⟨_, ow', tok_new I ht x k a (by omega) ha (by omega) (by subst hu; rfl) (by subst hu; exact hx) (by subst hu; rfl) (by subst hu; rfl) (by subst hu; rfl) (by subst hu; show σ.pl ≤ σ.tok + 1; omega) (by subst hw; rfl) (by subst hw; rfl) (by subst hw; rfl) (by subst hw; rfl) (by subst hw; rfl) (by subst hw; rfl) (by subst hw; rfl) (by subst hw; rfl) (by subst hw; rfl) (by subst hw; rfl) (by subst hw; intro t _; rfl) (by subst hw; exact hm.1) (by omega) (by rw [er]; intro t e; exact upN_n e) (by rw [er, upN_s]; omega) (by rw [er, upN_s]; omega) hO hS hR hT ?_⟩
    intro f hf i j _
    obtain ⟨q1, q2⟩ := hQ f i j hf
    rcases hk with hk | hk
    · subst hk
      rw [q1 rfl, Rq_5, er, upN_s, upL_n (by omega), upL_s]
      constructor
      · rintro (z | ⟨k, z1, z2, z3, z4⟩)
        · exact Or.inl z
        · exact Or.inr ⟨k, z1, z2, (cS x f i k (by omega) hf).mp z3, z4⟩
      · rintro (z | ⟨k, z1, z2, z3, z4⟩)
        · exact Or.inl z
        · exact Or.inr ⟨k, z1, z2, (cS x f i k (by omega) hf).mpr z3, z4⟩
    · subst hk
      rw [q2 rfl, Rq_6, er, upN_s, upL_n (by omega), upL_s, cS x f i j (by omega) hf]
      constructor
      · rintro (z | ⟨k, z1, z2, z3, z4⟩)
        · exact Or.inl z
        · exact Or.inr ⟨k, z1, z2, (cS x f i k (by omega) hf).mp z3, z4⟩
      · rintro (z | ⟨k, z1, z2, z3, z4⟩)
        · exact Or.inl z
        · exact Or.inr ⟨k, z1, z2, (cS x f i k (by omega) hf).mpr z3, z4⟩
end IV
end
section
set_option maxRecDepth 100000
section AN
theorem acX_GR {ow : Nat → Nat} {σ : XS} (hO : OwI ow σ) {f : Nat → Nat} {i j r : Nat} (hij : i ≤ j) (hr : r < σ.rul) : acX σ f i j r = true ↔ GR σ r f i j := by
  unfold acX
  by_cases e : i = j
  · rw [if_pos e]
    constructor
    · intro h
      exact Or.inl ⟨e, h⟩
    · rintro (⟨_, h⟩ | ⟨n, p, h, _⟩)
      · exact h
      · omega
  · rw [if_neg e, decide_eq_true_eq, and_ne0, rs_ac]
    constructor
    · rintro ⟨p, h1, h2⟩
      obtain ⟨r', hr', h3⟩ := (lb_orA σ.rf p σ.rul).mp h1
      have o1 := hO.2.1 r' p hr' (Or.inl h3)
      obtain ⟨q, o2, h4⟩ := ac_own (fun p => p < σ.pl ∧ ow p = 40 + r') (fun p q hp hq => by
        obtain ⟨z1, z2⟩ := hO.2.2.1 p q hp.1 hq.2
        exact ⟨z1, z2.trans hp.2⟩) _ p i o1 h2
      have o3 := hO.2.1 r q hr (Or.inr h4)
      have o4 := o2.2
      obtain rfl : r' = r := by omega
      exact Or.inr ⟨j - i - 1, p, by omega, h3, h2⟩
    · rintro (⟨h, _⟩ | ⟨n, p, h1, h2, h3⟩)
      · exact (e h).elim
      · refine ⟨p, (lb_orA σ.rf p σ.rul).mpr ⟨r, hr, h2⟩, ?_⟩
        rw [show j - i - 1 = n by omega]
        exact h3
theorem acR_GR {σ : XS} {f : Nat → Nat} {n r : Nat} : acR σ f n r = true ↔ GR σ r f 0 n := by
  unfold acR
  by_cases e : n = 0
  · rw [if_pos e]
    constructor
    · intro h
      exact Or.inl ⟨e.symm, h⟩
    · rintro (⟨_, h⟩ | ⟨n, p, h, _⟩)
      · exact h
      · omega
  · rw [if_neg e, decide_eq_true_eq, and_ne0, rs_ac]
    constructor
    · rintro ⟨p, h1, h2⟩
      exact Or.inr ⟨n - 1, p, by omega, h1, h2⟩
    · rintro (⟨h, _⟩ | ⟨m, p, h1, h2, h3⟩)
      · exact (e h.symm).elim
      · refine ⟨p, h2, ?_⟩
        rw [show n - 1 = m by omega]
        exact h3
/-- the model's table says of the rules what LexTables' places say -/
theorem fit_GR {Lt : LT} {ow : Nat → Nat} {σ : XS} {τ : MS} (I : Inv Lt ow σ τ) (n : Nat) (hn : n ≤ 30) (row : Nat → Nat) (b : Nat → Bool) {f : Nat → Nat} (hf : ∀ n, f n < 4) (hrow : ∀ k, k < n → row k = f k) {r i j : Nat} (hr : r < τ.rul) (hij : i ≤ j) (hj : j ≤ n) : wkT (mRw τ n row b) τ.tok (ix (τ.rof r) i j) = true ↔ GR σ r f i j := by
  obtain ⟨⟨a1, a2, a3, a4, a5⟩, ⟨b1, b2, b3, b4, b5, b6⟩, ⟨c1, c2⟩, cR, cO, cS, cG, cT, cM⟩ := I
  rw [cG r f i j (by omega) hf]
  exact wkT_ok (τ := mRw τ n row b) (Lt := Lt) (f := f) hn (fun t ht => by
    have ht : t < τ.tok := ht
    exact (cM.1 t (by omega)).2.2.1) cR hf hrow τ.tok (Nat.le_refl _) (τ.rof r) (c2 r hr) i j hij hj
theorem gX_gM {Lt : LT} {ow : Nat → Nat} {σ : XS} {τ : MS} (I : Inv Lt ow σ τ) {i j : Nat} (hij : i ≤ j) (hj : j ≤ σ.tl) : gX σ σ.txt i j = gM (wText τ) i j := by
  have I0 := I
  obtain ⟨⟨a1, a2, a3, a4, a5⟩, ⟨b1, b2, b3, b4, b5, b6⟩, ⟨c1, c2⟩, cR, cO, cS, cG, cT, cM⟩ := I0
  unfold gX gM
  rw [a3]
  refine lu_cong _ _ (fun r _ hr => ?_)
  rw [Bool.eq_iff_iff, acX_GR cO hij (by omega)]
  refine (fit_GR I τ.len (by omega) (cpN τ.row τ.txt τ.len) τ.fit (f := σ.txt) b6 ?_ (by omega) hij (by omega)).symm
  intro k hk
  rw [cpN_at, if_pos hk, a5]
theorem enX_enM {Lt : LT} {ow : Nat → Nat} {σ : XS} {τ : MS} (I : Inv Lt ow σ τ) : enX σ = enM (wText τ) := by
  have a4 : σ.tl = τ.len := I.1.2.2.2.1
  funext i
  unfold enX enM
  show endF (gX σ σ.txt i) i (σ.tl - i) = endF (gM (wText τ) i) i (τ.len - i)
  rw [← a4]
  exact endF_cong _ (fun j h1 h2 => gX_gM I (by omega) (by omega))
/-- LexTables' table and words may change -/
theorem Inv_x {Lt : LT} {ow : Nat → Nat} {σ u : XS} {τ : MS} (I : Inv Lt ow σ τ) (hT : TI (GdO σ.pl ow) u) (h : u = xWd σ u u.wc u.wso u.wle) : Inv Lt ow u τ := by
  have hT2 : TI (GdO σ.pl ow) (xWd σ u u.wc u.wso u.wle) := by rw [← h]; exact hT
  obtain ⟨i1, i2, i3, i4, i5, i6, i7, _, i9⟩ := I
  have : Inv Lt ow (xWd σ u u.wc u.wso u.wle) τ := ⟨i1, i2, i3, i4, i5, i6, i7, hT2, i9⟩
  rw [h]
  exact this
theorem Inv_tb {Lt : LT} {ow : Nat → Nat} {σ u : XS} {τ : MS} (I : Inv Lt ow σ τ) (hT : TI (GdO σ.pl ow) u) (h : u = xTb σ u) : Inv Lt ow u τ := by
  have hT2 : TI (GdO σ.pl ow) (xTb σ u) := by rw [← h]; exact hT
  obtain ⟨i1, i2, i3, i4, i5, i6, i7, _, i9⟩ := I
  have : Inv Lt ow (xTb σ u) τ := ⟨i1, i2, i3, i4, i5, i6, i7, hT2, i9⟩
  rw [h]
  exact this
/-- the model's row and table may change -/
theorem Inv_m {Lt : LT} {ow : Nat → Nat} {σ : XS} {τ : MS} (I : Inv Lt ow σ τ) (n : Nat) (r : Nat → Nat) (b : Nat → Bool) (hr : ∀ k, k < 30 → r k < 4) : Inv Lt ow σ (mRw τ n r b) := by
  obtain ⟨i1, i2, i3, i4, i5, i6, i7, i8, i9⟩ := I
  exact ⟨i1, i2, i3, i4, i5, i6, i7, i8, i9.1, hr⟩
theorem Inv_wT {Lt : LT} {ow : Nat → Nat} {σ : XS} {τ : MS} (I : Inv Lt ow σ τ) : Inv Lt ow σ (wText τ) := by
  have hl : ∀ j, j < τ.len → τ.txt j < 4 := fun j _ => by
    have := I.2.1.2.2.2.2.2 j
    rw [I.1.2.2.2.2] at this
    exact this
  exact Inv_m I τ.len (cpN τ.row τ.txt τ.len) (wkT (wRow τ) τ.tok) (mOk_row I.2.2.2.2.2.2.2.2 hl).2
/-- what the model's contracts ask for -/
theorem Inv_pre {Lt : LT} {ow : Nat → Nat} {σ : XS} {τ : MS} (I : Inv Lt ow σ τ) : τ.len ≤ 30 ∧ τ.tok ≤ 40 ∧ mOk τ ∧ (∀ j, j < τ.len → τ.txt j < 4) ∧ τ.rul ≤ 5 ∧ (∀ r, r < τ.rul → τ.rof r < 40) ∧ τ.hei ≤ τ.tok := by
  obtain ⟨⟨a1, a2, a3, a4, a5⟩, ⟨b1, b2, b3, b4, b5, b6⟩, ⟨c1, c2⟩, cR, cO, cS, cG, cT, cM⟩ := I
  exact ⟨by omega, by omega, cM, fun j _ => by have := b6 j; rw [a5] at this; exact this, by omega, fun r hr => by have := c2 r hr; omega, by omega⟩
/-- what LexTables' contracts ask for -/
theorem Inv_prx {Lt : LT} {ow : Nat → Nat} {σ : XS} {τ : MS} (I : Inv Lt ow σ τ) : TI (GdO σ.pl ow) σ ∧ Gcl (GdO σ.pl ow) σ ∧ σ.pl ≤ 40 ∧ σ.rul ≤ 5 ∧ (∀ j, j < σ.tl → σ.txt j < 4) ∧ σ.tl ≤ 30 ∧ σ.stk ≤ σ.tok ∧ σ.pl ≤ σ.tok ∧ σ.tok ≤ 40 := by
  obtain ⟨⟨a1, a2, a3, a4, a5⟩, ⟨b1, b2, b3, b4, b5, b6⟩, ⟨c1, c2⟩, cR, cO, cS, cG, cT, cM⟩ := I
  exact ⟨cT, Gcl_ow cO, by omega, b4, fun j _ => b6 j, b5, b2, b3, b1⟩
/-- how many words -/
theorem cut_cnt {g : Nat → Nat → Int32} {en : Nat → Nat} {tl wc c : Nat} {wso : Nat → Int32} {wle : Nat → Nat} (h : cutR g en tl wc wso wle) (h1 : tl ≤ ats en c) (h2 : ∀ c', c' < c → ats en c' < tl) : wc = c := by
  rcases Nat.lt_trichotomy wc c with z | z | z
  · have := h2 wc z
    have := h.2.1
    omega
  · exact z
  · have := (h.2.2 c z).1
    omega
/-- what is told of one word -/
theorem sr_eq {g : Nat → Nat → Int32} {en : Nat → Nat} {tl wc : Nat} {wso : Nat → Int32} {wle : Nat → Nat} (h : cutR g en tl wc wso wle) {no : Int32} {f v : Nat → Int32} (hv : ∀ c, c < wc → v c = f (ats en c)) {p r : Int32} (hr : srR en tl no f p r) : (if p < 0 ∨ nI wc ≤ p then no else v p.toNatClampNeg) = r := by
  rcases hr with ⟨h1, h2⟩ | ⟨c, hc, rfl, ⟨⟨c', z1, z2⟩, h2⟩ | ⟨z, h2⟩⟩
  · rw [if_pos (Or.inl h1), h2]
  · have : wc ≤ c := by
      rcases Nat.lt_or_ge c wc with q | q
      · have := (h.2.2 c' (by omega)).1
        omega
      · exact q
    rw [if_pos (Or.inr (nI_le this hc)), h2]
  · have : c < wc := by
      rcases Nat.lt_or_ge c wc with q | q
      · exact q
      · have := z wc q
        have := h.2.1
        omega
    have hwc := h.1
    rw [if_neg, nI_clamp hc, hv c this, h2]
    rintro (q | q)
    · exact nI_pos hc q
    · exact nI_ge this (by omega) q
-- ===== each call: the answers are the same, and what holds goes on =====
theorem go_token {Lt : LT} {ow : Nat → Nat} {σ u : XS} {τ w : MS} {c a r1 r2 : Int32} (I : Inv Lt ow σ τ) (h1 : (¬ tkOk σ.stk σ.tok σ.rul c ∧ r1 = -1 ∧ u = σ) ∨ (tkOk σ.stk σ.tok σ.rul c ∧ ∃ k, k ≤ 7 ∧ c = nI k ∧ r1 = nI u.stk ∧ tkR σ k (a3 a) u)) (h2 : (¬ tkOk τ.hei τ.tok τ.rul c ∧ r2 = -1 ∧ w = τ) ∨ (tkOk τ.hei τ.tok τ.rul c ∧ ∃ k, k ≤ 7 ∧ c = nI k ∧ r2 = nI w.hei ∧ mkR τ k (a3 a) w)) : r1 = r2 ∧ ∃ Lt' ow', Inv Lt' ow' u w := by
  have a1 := I.1.1
  have a2 := I.1.2.1
  have a9 := I.1.2.2.1
  rw [← a1, ← a2, ← a9] at h2
  rcases h1 with ⟨n1, e1, q1⟩ | ⟨n1, k, hk, ek, e1, q1⟩
  · rcases h2 with ⟨_, e2, q2⟩ | ⟨n2, _⟩
    · subst q1; subst q2
      exact ⟨e1.trans e2.symm, Lt, ow, I⟩
    · exact (n1 n2).elim
  · rcases h2 with ⟨n2, _⟩ | ⟨_, k', hk', ek', e2, q2⟩
    · exact (n2 n1).elim
    · obtain rfl : k = k' := tk_inj hk hk' (ek.symm.trans ek')
      obtain ⟨k2, hk2, ek2, _, ht, h7⟩ := n1
      obtain rfl : k = k2 := tk_inj hk hk2 (ek.symm.trans ek2)
      obtain ⟨Lt', ow', I'⟩ := tok_inv I (a3_lt a) ht h7 q1 q2
      exact ⟨by rw [e1, e2, I'.1.2.1], Lt', ow', I'⟩
theorem go_clear {Lt : LT} {ow : Nat → Nat} {σ u : XS} {τ w : MS} (I : Inv Lt ow σ τ) (h1 : u = x_clear σ) (h2 : w = ms_rul (ms_hei (ms_tok τ 0) 0) 0) : Inv Lt ow u w := by
  subst h1; subst h2
  obtain ⟨⟨a1, a2, a3, a4, a5⟩, ⟨b1, b2, b3, b4, b5, b6⟩, ⟨c1, c2⟩, cR, cO, cS, cG, cT, cM⟩ := I
  refine ⟨⟨rfl, rfl, rfl, a4, a5⟩, ⟨Nat.zero_le _, Nat.le_refl _, Nat.le_refl _, Nat.zero_le _, b5, b6⟩, ⟨fun k h => absurd h (Nat.not_lt_zero _), fun k h => absurd h (Nat.not_lt_zero _)⟩, fun k h => absurd h (Nat.not_lt_zero _), ⟨fun k p h => absurd h (Nat.not_lt_zero _), fun k p h => absurd h (Nat.not_lt_zero _), fun k p h => absurd h (Nat.not_lt_zero _), ?_⟩, fun k _ _ _ h => absurd h (Nat.not_lt_zero _), fun k _ _ _ h => absurd h (Nat.not_lt_zero _), TI_empty _ _, cM⟩
  intro a p ha hp
  have hp : lb (fiL σ.lp 0 4 a) p = true := hp
  rw [fiL_at, if_pos ha, lb_0] at hp
  exact absurd hp (by decide)
theorem go_type {Lt : LT} {ow : Nat → Nat} {σ u : XS} {τ w : MS} {x r1 r2 : Int32} (I : Inv Lt ow σ τ) (h1 : (30 ≤ σ.tl ∧ r1 = -1 ∧ u = σ) ∨ (σ.tl < 30 ∧ r1 = nI (σ.tl + 1) ∧ u = xs_tl (xs_txt σ (upN σ.txt σ.tl (a3 x))) (σ.tl + 1))) (h2 : (30 ≤ τ.len ∧ r2 = -1 ∧ w = τ) ∨ (τ.len < 30 ∧ r2 = nI (τ.len + 1) ∧ w = ms_len (ms_txt τ (upN τ.txt τ.len (a3 x))) (τ.len + 1))) : r1 = r2 ∧ Inv Lt ow u w := by
  have e4 : σ.tl = τ.len := I.1.2.2.2.1
  have e5 : σ.txt = τ.txt := I.1.2.2.2.2
  rcases h1 with ⟨n1, e1, q1⟩ | ⟨n1, e1, q1⟩
  · rcases h2 with ⟨_, e2, q2⟩ | ⟨n2, _⟩
    · subst q1; subst q2
      exact ⟨e1.trans e2.symm, I⟩
    · omega
  · rcases h2 with ⟨n2, _⟩ | ⟨_, e2, q2⟩
    · omega
    · subst q1; subst q2
      obtain ⟨⟨a1, a2, a9, a4, a5⟩, ⟨b1, b2, b3, b4, b5, b6⟩, i3, i4, i5, i6, i7, i8, i9⟩ := I
      refine ⟨by rw [e1, e2, e4], ⟨a1, a2, a9, congrArg (· + 1) a4, ?_⟩, ⟨b1, b2, b3, b4, ?_, ?_⟩, i3, i4, i5, i6, i7, i8, i9⟩
      · show upN σ.txt σ.tl (a3 x) = upN τ.txt τ.len (a3 x)
        rw [e4, e5]
      · show σ.tl + 1 ≤ 30
        omega
      · intro k
        show upN σ.txt σ.tl (a3 x) k < 4
        by_cases e : k = σ.tl
        · subst e
          rw [upN_s]
          exact a3_lt x
        · rw [upN_n e]
          exact b6 k
theorem go_erase {Lt : LT} {ow : Nat → Nat} {σ u : XS} {τ w : MS} (I : Inv Lt ow σ τ) (h1 : u = xs_tl σ 0) (h2 : w = ms_len τ 0) : Inv Lt ow u w := by
  subst h1; subst h2
  obtain ⟨⟨a1, a2, a9, a4, a5⟩, ⟨b1, b2, b3, b4, b5, b6⟩, i3, i4, i5, i6, i7, i8, i9⟩ := I
  exact ⟨⟨a1, a2, a9, rfl, a5⟩, ⟨b1, b2, b3, b4, Nat.zero_le _, b6⟩, i3, i4, i5, i6, i7, i8, i9⟩
theorem go_words {Lt : LT} {ow : Nat → Nat} {σ u : XS} {τ w : MS} {r1 r2 : Int32} (I : Inv Lt ow σ τ) (h1 : (TI (GdO σ.pl ow) u ∧ u = xWd σ u u.wc u.wso u.wle ∧ cutR (gX σ σ.txt) (enX σ) σ.tl u.wc u.wso u.wle) ∧ r1 = nI u.wc) (h2 : w = wText τ ∧ ∃ c, r2 = nI c ∧ τ.len ≤ ats (enM (wText τ)) c ∧ ∀ c', c' < c → ats (enM (wText τ)) c' < τ.len) : r1 = r2 ∧ Inv Lt ow u w := by
  obtain ⟨⟨hT, hu, hc⟩, e1⟩ := h1
  obtain ⟨rfl, c, e2, z1, z2⟩ := h2
  have e4 : σ.tl = τ.len := I.1.2.2.2.1
  rw [← enX_enM I, ← e4] at z1 z2
  refine ⟨?_, Inv_wT (Inv_x I hT hu)⟩
  rw [e1, e2, cut_cnt hc z1 z2]
theorem go_sort {Lt : LT} {ow : Nat → Nat} {σ u : XS} {τ w : MS} {p r1 r2 : Int32} (I : Inv Lt ow σ τ) (h1 : (TI (GdO σ.pl ow) u ∧ u = xWd σ u u.wc u.wso u.wle ∧ cutR (gX σ σ.txt) (enX σ) σ.tl u.wc u.wso u.wle) ∧ r1 = if p < 0 ∨ nI u.wc ≤ p then -2 else u.wso p.toNatClampNeg) (h2 : w = wText τ ∧ srR (enM (wText τ)) τ.len (-2) (fun a => gM (wText τ) a (enM (wText τ) a)) p r2) : r1 = r2 ∧ Inv Lt ow u w := by
  obtain ⟨⟨hT, hu, hc⟩, e1⟩ := h1
  obtain ⟨rfl, z⟩ := h2
  have e4 : σ.tl = τ.len := I.1.2.2.2.1
  rw [← enX_enM I, ← e4] at z
  refine ⟨?_, Inv_wT (Inv_x I hT hu)⟩
  rw [e1]
  refine sr_eq hc ?_ z
  intro c hcw
  obtain ⟨w1, w2, _⟩ := hc.2.2 c hcw
  rw [w2]
  exact gX_gM I (Nat.le_of_lt (enX_gt σ _)) (enX_le w1)
theorem go_length {Lt : LT} {ow : Nat → Nat} {σ u : XS} {τ w : MS} {p r1 r2 : Int32} (I : Inv Lt ow σ τ) (h1 : (TI (GdO σ.pl ow) u ∧ u = xWd σ u u.wc u.wso u.wle ∧ cutR (gX σ σ.txt) (enX σ) σ.tl u.wc u.wso u.wle) ∧ r1 = if p < 0 ∨ nI u.wc ≤ p then 0 else nI (u.wle p.toNatClampNeg)) (h2 : w = wText τ ∧ srR (enM (wText τ)) τ.len 0 (fun a => nI (enM (wText τ) a - a)) p r2) : r1 = r2 ∧ Inv Lt ow u w := by
  obtain ⟨⟨hT, hu, hc⟩, e1⟩ := h1
  obtain ⟨rfl, z⟩ := h2
  have e4 : σ.tl = τ.len := I.1.2.2.2.1
  rw [← enX_enM I, ← e4] at z
  refine ⟨?_, Inv_wT (Inv_x I hT hu)⟩
  rw [e1]
  refine sr_eq (v := fun c => nI (u.wle c)) hc ?_ z
  intro c hcw
  obtain ⟨_, _, w3⟩ := hc.2.2 c hcw
  show nI (u.wle c) = _
  rw [w3]
theorem bOf_cg {n : Nat} {b c : Nat → Bool} (hn : n ≤ 5) (h : ∀ r, r < n → b r = c r) (p : Int32) : bOf n b p = bOf n c p := by
  unfold bOf
  by_cases e : p < 0 ∨ nI n ≤ p
  · rw [if_pos e, if_pos e]
  · rw [if_neg e, if_neg e]
    obtain ⟨j, rfl, hj⟩ := ru_good hn e
    rw [nI_clamp (by omega), h j hj]
theorem go_matches {Lt : LT} {ow : Nat → Nat} {σ u : XS} {τ w : MS} {p r1 r2 : Int32} (I : Inv Lt ow σ τ) (h1 : u = σ ∧ r1 = bOf σ.rul (acR σ σ.txt σ.tl) p) (h2 : r2 = bOf τ.rul (fun r => (wText τ).fit (ix (τ.rof r) 0 τ.len)) p ∧ (w = τ ∨ w = wText τ)) : r1 = r2 ∧ Inv Lt ow u w := by
  obtain ⟨rfl, e1⟩ := h1
  obtain ⟨e2, hw⟩ := h2
  have I0 := I
  obtain ⟨⟨a1, a2, a9, a4, a5⟩, ⟨b1, b2, b3, b4, b5, b6⟩, _⟩ := I0
  refine ⟨?_, ?_⟩
  · rw [e1, e2, a9]
    refine bOf_cg (by omega) (fun r hr => ?_) p
    rw [Bool.eq_iff_iff, acR_GR, a4]
    refine (fit_GR I τ.len (by omega) (cpN τ.row τ.txt τ.len) τ.fit (f := u.txt) b6 ?_ hr (Nat.zero_le _) (Nat.le_refl _)).symm
    intro k hk
    rw [cpN_at, if_pos hk, a5]
  · rcases hw with rfl | rfl
    · exact I
    · exact Inv_wT I
/-- what count's contract on the model's side asks for -/
theorem cnt_pre {Lt : LT} {ow : Nat → Nat} {σ : XS} {τ : MS} (I : Inv Lt ow σ τ) : ∀ j n w r f, j < τ.rul → n ≤ 4 → (∀ k, k < n → r k = dig w k) → wkT (mRw τ n r f) τ.tok (ix (τ.rof j) 0 n) = (fun j n w => acR σ (dig w) n j) j n w := by
  intro j n w r f hj hn hr
  show _ = acR σ (dig w) n j
  rw [Bool.eq_iff_iff, acR_GR]
  exact fit_GR I n (by omega) r f (f := dig w) (fun k => dig_lt w k) hr hj (Nat.zero_le _) (Nat.le_refl _)
theorem go_count {Lt : LT} {ow : Nat → Nat} {σ u : XS} {τ w : MS} {p q r1 r2 : Int32} (I : Inv Lt ow σ τ) (h1 : u = σ ∧ r1 = cOf σ.rul (fun j n w => acR σ (dig w) n j) p q) (h2 : r2 = cOf τ.rul (fun j n w => acR σ (dig w) n j) p q ∧ (w = τ ∨ ∃ n r f, (∀ k, k < 30 → r k < 4) ∧ w = mRw τ n r f)) : r1 = r2 ∧ Inv Lt ow u w := by
  obtain ⟨rfl, e1⟩ := h1
  obtain ⟨e2, hw⟩ := h2
  refine ⟨by rw [e1, e2, I.1.2.2.1], ?_⟩
  rcases hw with rfl | ⟨n, r, f, hr, rfl⟩
  · exact I
  · exact Inv_m I n r f hr
theorem go_sortOf {Lt : LT} {ow : Nat → Nat} {σ u : XS} {τ w : MS} {p q r1 r2 : Int32} (I : Inv Lt ow σ τ) (h1 : TI (GdO σ.pl ow) u ∧ u = xTb σ u ∧ r1 = sOf (gX σ σ.txt) σ.tl p q) (h2 : r2 = sOf (gM (wText τ)) τ.len p q ∧ (w = τ ∨ w = wText τ)) : r1 = r2 ∧ Inv Lt ow u w := by
  obtain ⟨hT, hu, e1⟩ := h1
  obtain ⟨e2, hw⟩ := h2
  have e4 : σ.tl = τ.len := I.1.2.2.2.1
  have e5 : σ.tl ≤ 30 := I.2.1.2.2.2.2.1
  refine ⟨?_, ?_⟩
  · rw [e1, e2, ← e4]
    unfold sOf
    by_cases e : p < 0 ∨ q < p ∨ nI σ.tl < q
    · rw [if_pos e, if_pos e]
    · rw [if_neg e, if_neg e]
      obtain ⟨i, j, rfl, rfl, hij, hj⟩ := so_good e5 e
      rw [nI_clamp (by omega), nI_clamp (by omega)]
      exact gX_gM I hij hj
  · have I2 := Inv_tb I hT hu
    rcases hw with rfl | rfl
    · exact I2
    · exact Inv_wT I2
/-- the two objects at their beginning -/
def xz0 : XS := ((0, 0, fun _ => 0, fun _ => 0), (0, fun _ => 0, fun _ => 0, fun _ => false), (0, fun _ => 0, fun _ => 0, fun _ => false), (0, fun _ => 0, fun _ => 0, fun _ => 0), (0, fun _ => 0, 0, fun _ => 0, fun _ => 0))
def mz0 : MS := ((0, fun _ => 0, fun _ => 0, fun _ => 0, fun _ => 0), (0, fun _ => 0, 0, fun _ => 0), (0, fun _ => 0, 0, fun _ => 0, fun _ => false))
theorem Inv_0 : Inv (fun _ _ _ _ => False) (fun _ => 0) (x_empty xz0) mz0 := by
  refine ⟨⟨rfl, rfl, rfl, rfl, rfl⟩, ⟨Nat.zero_le _, Nat.le_refl _, Nat.le_refl _, Nat.zero_le _, Nat.zero_le _, fun _ => (by decide : 0 < 4)⟩, ⟨fun k h => absurd h (Nat.not_lt_zero _), fun k h => absurd h (Nat.not_lt_zero _)⟩, fun k h => absurd h (Nat.not_lt_zero _), ⟨fun k p h => absurd h (Nat.not_lt_zero _), fun k p h => absurd h (Nat.not_lt_zero _), fun k p h => absurd h (Nat.not_lt_zero _), ?_⟩, fun k _ _ _ h => absurd h (Nat.not_lt_zero _), fun k _ _ _ h => absurd h (Nat.not_lt_zero _), TI_empty _ _, fun t _ => ⟨(by decide : 0 < 40), (by decide : 0 < 40), (by decide : 0 ≤ 7), (by decide : 0 < 4)⟩, fun k _ => (by decide : 0 < 4)⟩
  intro a p ha hp
  have hp : lb 0 p = true := hp
  rw [lb_0] at hp
  exact absurd hp (by decide)
end AN
end
section
set_option maxRecDepth 100000
section NI
/-- a constructor at pc: k cells of n slots are made so far -/
def vN (X : VX) (h0 k n : Nat) (ws : va_W) (pc : Nat) (st : List Value) : Prop :=
  ∀ (H : Heap) (locs : List Loc), va_P X.D vwCl ws H → va_D X.A ws → va_S X.A X.s.heap H locs → ∀ ls : Array Slot, lv_has ls X.L [(0, .ref h0)] → W X.p X.l X.e X.R X.s X.m X.ar X.bl X.mt X.c H locs k n X.Q (F0 X.m pc ls st)
variable {X : VX} {cc : ByteArray} {own : String} {nL : Nat} {tys : List (ClassId × FieldType)} {R0 : Room} {ad : Nat → Nat} {nA h0 k n : Nat} {ws ws' : va_W} {pc : Nat} {st : List Value}
theorem n_aload (C : vC X cc own nL tys R0 ad nA) (d : decode cc pc = .ok (.aload_n 0, 1)) (K : vN X h0 k n ws (pc + 1) (.ref h0 :: st)) : vN X h0 k n ws pc st := fun H locs hP hD hS ls hl => lv_aload_n C.hx C.hb d rfl (lv_at hl 0 rfl) (K H locs hP hD hS ls hl)
theorem n_iconst (C : vC X cc own nL tys R0 ad nA) {a : Int} {v : Int32} (d : decode cc pc = .ok (.iconst a, 1)) (hv : Int32.ofInt a = v) (K : vN X h0 k n ws (pc + 1) (.int v :: st)) : vN X h0 k n ws pc st := fun H locs hP hD hS ls hl => lv_iconst C.hx C.hb d hv (K H locs hP hD hS ls hl)
theorem n_bipush (C : vC X cc own nL tys R0 ad nA) {a : Int} {v : Int32} (d : decode cc pc = .ok (.bipush a, 2)) (hv : (Int8.ofInt a).toInt32 = v) (K : vN X h0 k n ws (pc + 2) (.int v :: st)) : vN X h0 k n ws pc st := fun H locs hP hD hS ls hl => lv_bipush C.hx C.hb d hv (K H locs hP hD hS ls hl)
theorem n_sipush (C : vC X cc own nL tys R0 ad nA) {a : Int} {v : Int32} (d : decode cc pc = .ok (.sipush a, 3)) (hv : (Int16.ofInt a).toInt32 = v) (K : vN X h0 k n ws (pc + 3) (.int v :: st)) : vN X h0 k n ws pc st := fun H locs hP hD hS ls hl => lv_sipush C.hx C.hb d hv (K H locs hP hD hS ls hl)
theorem n_ldc (C : vC X cc own nL tys R0 ad nA) {index : Nat} {v v' : Int32} (hc : Cond.constant own index v ∈ lw_all) (d : decode cc pc = .ok (.ldc index, 2)) (hv : v = v') (K : vN X h0 k n ws (pc + 2) (.int v' :: st)) : vN X h0 k n ws pc st := fun H locs hP hD hS ls hl => lv_ldc C.hx C.hb C.ho (C.ht _ hc) d (hv ▸ K H locs hP hD hS ls hl)
theorem n_obj (C : vC X cc own nL tys R0 ad nA) {idx : Nat} (hl1 : Cond.methodLink own idx Lib.objectInit ∈ lw_all) (hi : Cond.instanceMethod Lib.objectInit ∈ lw_all) (hc : Cond.code Lib.objectInit ⟨#[0xb1]⟩ 1 none ∈ lw_all) (hr : 1 ≤ R0.frames ∧ 12 ≤ R0.locals) (d : decode cc pc = .ok (.invokespecial idx, 3)) (K : vN X h0 k n ws (pc + 3) []) : vN X h0 k n ws pc [.ref h0] := fun H locs hP hD hS ls hl =>
  W.objInit C.hx C.hb C.ho (C.ht _ hl1) (C.ht _ hi) (C.ht _ hc) rfl (by rw [C.hm]; exact hl.1) rfl d (by rw [C.hR]; exact hr.1) (by rw [C.hR]; exact hr.2) (W.eq (g2 := F0 X.m (pc + 3) ls []) rfl (K H locs hP hD hS ls hl))
theorem n_newa (C : vC X cc own nL tys R0 ad nA) {atype : ArrayType} {ty : FieldType} (harr : Cond.arrayClass (newarray.typeOf atype) ∈ lw_all) (hty : newarray.typeOf atype = ty) (hra : ∀ U c, va_RA U c ty = (U.vm.findClass ("[" ++ ty.toString) = some c)) (t0 : Nat) {cA : ClassId} (ht : tys[t0]? = some (cA, ty)) {N : Nat} {a0 : vp_A} (ha : ∀ cA : ClassId, vp_cell cA a0 = arrV cA N (fun _ => defaultValue ty)) (hN : N < 2 ^ 31) (hby : N * componentBytes ty ≤ 536870912) (hk : k + 1 ≤ R0.cells) (hn : n + N ≤ R0.slots) (d : decode cc pc = .ok (.newarray atype, 2)) (K : ∀ q : Nat, vN X h0 (k + 1) (n + N) (ws ++ [(q, .inl (cA, a0))]) (pc + 2) (.ref q :: st)) : vN X h0 k n ws pc (.int (nI N) :: st) := by
  intro H locs hP hD hS ls hl
  refine va_newa C.hx C.hb (C.ht _ harr) hty C.hK hP hD hS (fun q h => C.hA q _ (Nat.le_refl _) (Or.inr h)) ha (nI_pos hN) (nI_clamp hN) hby (by rw [C.hR]; exact hk) (by rw [C.hR]; exact hn) d (fun q cA2 H1 hK1 hP1 hD1 hS1 => ?_)
  have e1 := (hK1.2 tys.length (cA2, ty) (by simp)).2
  have e2 := (C.hK.2 t0 _ ht).2
  rw [hra] at e1 e2
  obtain rfl : cA2 = cA := Option.some.inj (e1.symm.trans e2)
  exact K q H1 locs hP1 hD1 hS1 ls hl
theorem n_putF (C : vC X cc own nL tys R0 ad nA) (hin2 : X.mt.name = "<init>") {Cn ref : String} {T : u_T} {N ci index : Nat} (hin : ∀ w ∈ u_ws Cn T N, w ∈ lw_all) {ty0 : Nat → FieldType} (hty : ∀ k, k < N → parseFieldDescriptor (T k).2.2.1 = some (ty0 k)) (hnm : ∀ a, a < N → ∀ b, b < N → a ≠ b → (T a).2.1 ≠ (T b).2.1) (q0 : Nat) {a : Nat} {fs : List Value} (he : ws[q0]? = some (a, .inr (ci, fs))) (hc : vwCl[ci]? = some (Cn, T, N)) (i : Nat) (hk : i < N) (hlink : Cond.fieldLink own index ref (T i).2.1 (T i).2.2.1 ∈ lw_all) (hsame : (T i).1 = ref) (hfin : (T i).2.2.2 = true) (hdecl : (T i).1 = own) {ty : FieldType} {v : Value} (hd : parseFieldDescriptor (T i).2.2.1 = some ty) (hn : narrow ty v = v) (hfit : fits ty v = true) (hl : i < fs.length) (hw : ws.set q0 (a, .inr (ci, fs.set i v)) = ws') (d : decode cc pc = .ok (.putfield index, 3)) (K : vN X h0 k n ws' (pc + 3) st) : vN X h0 k n ws pc (v :: .ref a :: st) := by
  subst hw
  exact fun H locs hP hD hS ls hlv => va_putF C.hx C.hb C.ht hin ty0 hty hnm C.ho C.hK hP hD hS q0 he hc i hk (C.ht _ hlink) (fun x h => by rw [← hsame]; exact h) hfin hin2 hdecl hd hn hfit hl d (fun H1 l1 a b c => K H1 l1 a b c ls hlv)
theorem n_ws (h : ws = ws') (K : vN X h0 k n ws' pc st) : vN X h0 k n ws pc st := h ▸ K
theorem n_vret (C : vC X cc own nL tys R0 ad nA) {S : Type} {post : S → Prop} {wf : S → va_W} (hr : X.mt.sig.returnType = none) (hQ : X.Q = MQ X.bl (va_Qv post (vB X.D wf X.A) X.A) X.ar X.s k n X.A) (u : S) (hw : ws = wf u) (hp : post u) (d : decode cc pc = .ok (.return_, 1)) : vN X h0 k n ws pc [] := by
  subst hw
  obtain ⟨p, l, e, R, s, m, ar, bl, mt, c, k1, n1, Q, A, D, L⟩ := X
  replace hQ : Q = MQ bl (va_Qv post (vB D wf A) A) ar s k n A := hQ
  subst hQ
  exact fun H locs hP hD hS ls hl => W.vret C.hx C.hb hr (fun t ht hW => ⟨⟨u, rfl, hp, by rw [ht]; exact hP, hD⟩, hS.F ht⟩) hS.2.2 d C.hlk
/-- a call of a method of the new object's, behind whose world all the arrays stand -/
theorem n_callv (C : vC X cc own nL tys R0 ad nA) {S : Type} {post : S → Prop} {wf : S → va_W} {y : MethodName} {b : ByteArray} {L : Nat} {dd idx : Nat} {a : Nat} {bd : Nat → Nat} {nB : Nat} {Cn : String} (hM : vMv X.l X.D tys y b L dd [.ref a] ws bd nB post wf) (hG : GoodIn lw_all (wsV own idx Cn y (ws_ y b L none))) (hd : y.cls = Cn ∧ y.cls ≠ "java/lang/invoke/MethodHandle" ∧ y.cls ≠ "java/lang/invoke/VarHandle" ∧ (parseMethodDescriptor y.desc).map (fun d => d.parameters.length) = some 0) (hR : dd + 1 ≤ R0.frames ∧ 8 + (L + 11) + 32 * dd ≤ R0.locals) (hkn : k ≤ R0.cells ∧ n ≤ R0.slots) {ci q0 : Nat} {q : vw_C} {fs : List Value} (hc : vwCl[ci]? = some q) (hcq : q.1 = Cn) (he : ws[q0]? = some (a, .inr (ci, fs))) (hat : ∀ j, j < nB → ∃ e, ws[j]? = some (bd j, e)) (d : decode cc pc = .ok (.invokevirtual idx, 3))
    (K : ∀ u, post u → vN X h0 k n (wf u) (pc + 3) []) : vN X h0 k n ws pc [.ref a] := by
  subst hcq
  intro H locs hP hD hS ls hl
  have hAA : ∀ x, vA bd nB H.size x → X.A x := by
    intro x hx
    rcases hx with ⟨j, hj, rfl⟩ | hx
    · obtain ⟨e, he⟩ := hat j hj
      exact hD.2 j _ he
    · exact C.hA x _ hS.1 (Or.inr hx)
  refine va_callv (va_runV (As := []) (rest := []) ⟨C.hx, C.hb, C.hm, C.ho, C.ht⟩ (hM H.size) (cwV 0 C.ht hG rfl rfl rfl hd (by rw [C.hR]; exact hR)) ⟨vPre_blind, va_recv C.hK hP hc he, fun U hU hW => ⟨rfl, by rw [hU], by rw [hU]; exact hP, va_K.moved hW.alike C.hK, hD.weaken (fun _ _ _ _ => trivial)⟩⟩ rfl rfl hl.1 rfl (lv_room (Nat.le_of_ble_eq_true rfl)) d (by rw [C.hR]; exact hkn)) hS (fun x _ h => hAA x h) hAA (fun u t H1 locs1 ht hvm hp hB hz hk hS1 => ?_)
  obtain ⟨hP1, hD1⟩ := hB
  rw [ht] at hP1
  exact K u hp H1 locs1 hP1 (hD1.weaken (fun k q _ h => hAA q.1 h)) hS1 ls hl
/-- a constructor's contract: from the new object's cell alone to its world -/
abbrev vMn {S : Type} (l : Launch) (D : va_G) (tys : List (ClassId × FieldType)) (y : MethodName) (b : ByteArray) (rm : Room) (h0 : Nat) (ws : va_W) (post : S → Prop) (wf : S → va_W) : Prop := ∀ sz, Met l y (ws_ y b 1 none) rm (va_Pc [.ref h0] (vPre D tys ws sz)) (va_Qv post (vB D wf (vA (fun _ => h0) 1 sz)) (vA (fun _ => h0) 1 sz)) rm.cells rm.slots (vA (fun _ => h0) 1 sz)
theorem vMn_of {S : Type} {l : Launch} {D : va_G} {tys : List (ClassId × FieldType)} {y : MethodName} {b : ByteArray} {rm : Room} {h0 : Nat} {E : va_E} {post : S → Prop} {wf : S → va_W} (hy : plainName y.cls = true) (hyn : y.name = "<init>")
    (body : ∀ X : VX, vC X b y.cls 1 tys rm (fun _ => h0) 1 → X.mt.name = "<init>" → X.mt.sig.returnType = none → X.Q = MQ X.bl (va_Qv post (vB X.D wf X.A) X.A) X.ar X.s rm.cells rm.slots X.A → X.l = l → X.D = D → vN X h0 0 0 [(h0, E)] 0 []) : vMn l D tys y b rm h0 [(h0, E)] post wf := by
  intro sz
  refine Met.ofW (cc := b) (maxL := 1) (ret := none) hy rfl ?_
  intro p e s m args below meth c s₁ B hml hv
  obtain ⟨rfl, hsz, hP, hK, hD0⟩ := hv
  have hts := atoms_spec (ws := ws_ y b 1 none) B.pre
  have hts : ∀ w ∈ lw_all, w.before _ s = true := fun w h => hts w (List.mem_cons_of_mem _ h)
  have hown : s.vm.findClass y.cls = some m.cls := findClass_of_methodNamed B.named
  have hin : meth.name = y.name := (name_of_methodNamed B.named B.method).1
  subst hsz
  have hl := lv_entry ([.ref h0] : List Value) (n := 1) (Nat.le_of_ble_eq_true rfl)
  rw [lg_entry_eq]
  refine body (p, l, e, rm, s, m, ([.ref h0] : List Value).toArray, below, meth, c, 0, 0, _, vA (fun _ => h0) 1 s.heap.size, D, 1) ⟨B.exec, B.bytes, hml, rfl, hown, hts, hK, B.notSynchronized, ⟨Nat.zero_le _, Nat.zero_le _⟩, rfl, ?_⟩ (hin.trans hyn) B.returns rfl rfl rfl s.heap [] hP (hD0.weaken (fun k q h _ => ?_)) va_S.rf _ hl
  · intro q sz h1 h2
    rcases h2 with h2 | h2
    · exact Or.inl h2
    · exact Or.inr (Nat.le_trans h1 h2)
  · refine Or.inl ⟨0, by decide, ?_⟩
    match k, h with
    | 0, h => cases h; rfl
    | k + 1, h => exact absurd h (by simp)
end NI
section NX0
abbrev zX0 : List Value := [.int (nI 0), .int (nI 0), .null, .null, .int (nI 0), .null, .null, .null, .int (nI 0), .null, .null, .null, .int (nI 0), .null, .null, .null, .int (nI 0), .null, .int (nI 0), .null, .null]
abbrev rmX0 : Room := { frames := 1, cells := 14, slots := 557, locals := 32 }
set_option maxHeartbeats 8000000 in
theorem met_x_init {l : Launch} {D : va_G} {ci cj cz : ClassId} (h0 : Nat) : vMn l D (vTy ci cj cz) yX0_init cX0_init rmX0 h0 [(h0, .inr (0, zX0))] (fun ad : Nat → Nat => ad 0 = h0) (fun ad => xW ad ci cj cz (x_empty xz0)) := by
  refine vMn_of (by decide) rfl ?_
  intro X C hin hr hQ hXl hXD
  refine n_aload (pc := 0) C dX0_init_0 ?_
  refine n_obj (pc := 1) C q30 q31 q32 ⟨by decide, by decide⟩ dX0_init_1 ?_
  refine n_aload (pc := 4) C dX0_init_4 ?_
  refine n_bipush (pc := 5) C dX0_init_5 cb_40 ?_
  refine n_newa (pc := 7) (atype := .long) (a0 := (40, .inr (.inl xz0.fol))) C q101 (ty := .long) rfl (fun _ _ => rfl) 1 (cA := cj) rfl (fun _ => rfl) (by decide) (Nat.le_of_ble_eq_true rfl) (Nat.le_of_ble_eq_true rfl) (Nat.le_of_ble_eq_true rfl) dX0_init_7 (fun q1 => ?_)
  refine n_ws (ws' := [(h0, .inr (0, [.int (nI 0), .int (nI 0), .null, .null, .int (nI 0), .null, .null, .null, .int (nI 0), .null, .null, .null, .int (nI 0), .null, .null, .null, .int (nI 0), .null, .int (nI 0), .null, .null])), (q1, .inl (cj, 40, .inr (.inl xz0.fol)))]) rfl ?_
  refine n_putF (pc := 9) (ws' := [(h0, .inr (0, [.int (nI 0), .int (nI 0), .ref q1, .null, .int (nI 0), .null, .null, .null, .int (nI 0), .null, .null, .null, .int (nI 0), .null, .null, .null, .int (nI 0), .null, .int (nI 0), .null, .null])), (q1, .inl (cj, 40, .inr (.inl xz0.fol)))]) C hin in_X0 tyX0_ok nmX0 0 rfl rfl 2 (by decide) q39 rfl rfl rfl (ty := tyX0 2) (by decide +kernel) rfl rfl (Nat.le_of_ble_eq_true rfl) rfl dX0_init_9 ?_
  refine n_aload (pc := 12) C dX0_init_12 ?_
  refine n_iconst (pc := 13) C dX0_init_13 ci_4 ?_
  refine n_newa (pc := 14) (atype := .long) (a0 := (4, .inr (.inl xz0.lp))) C q101 (ty := .long) rfl (fun _ _ => rfl) 1 (cA := cj) rfl (fun _ => rfl) (by decide) (Nat.le_of_ble_eq_true rfl) (Nat.le_of_ble_eq_true rfl) (Nat.le_of_ble_eq_true rfl) dX0_init_14 (fun q2 => ?_)
  refine n_ws (ws' := [(h0, .inr (0, [.int (nI 0), .int (nI 0), .ref q1, .null, .int (nI 0), .null, .null, .null, .int (nI 0), .null, .null, .null, .int (nI 0), .null, .null, .null, .int (nI 0), .null, .int (nI 0), .null, .null])), (q1, .inl (cj, 40, .inr (.inl xz0.fol))), (q2, .inl (cj, 4, .inr (.inl xz0.lp)))]) rfl ?_
  refine n_putF (pc := 16) (ws' := [(h0, .inr (0, [.int (nI 0), .int (nI 0), .ref q1, .ref q2, .int (nI 0), .null, .null, .null, .int (nI 0), .null, .null, .null, .int (nI 0), .null, .null, .null, .int (nI 0), .null, .int (nI 0), .null, .null])), (q1, .inl (cj, 40, .inr (.inl xz0.fol))), (q2, .inl (cj, 4, .inr (.inl xz0.lp)))]) C hin in_X0 tyX0_ok nmX0 0 rfl rfl 3 (by decide) q40 rfl rfl rfl (ty := tyX0 3) (by decide +kernel) rfl rfl (Nat.le_of_ble_eq_true rfl) rfl dX0_init_16 ?_
  refine n_aload (pc := 19) C dX0_init_19 ?_
  refine n_bipush (pc := 20) C dX0_init_20 cb_40 ?_
  refine n_newa (pc := 22) (atype := .long) (a0 := (40, .inr (.inl xz0.fi))) C q101 (ty := .long) rfl (fun _ _ => rfl) 1 (cA := cj) rfl (fun _ => rfl) (by decide) (Nat.le_of_ble_eq_true rfl) (Nat.le_of_ble_eq_true rfl) (Nat.le_of_ble_eq_true rfl) dX0_init_22 (fun q3 => ?_)
  refine n_ws (ws' := [(h0, .inr (0, [.int (nI 0), .int (nI 0), .ref q1, .ref q2, .int (nI 0), .null, .null, .null, .int (nI 0), .null, .null, .null, .int (nI 0), .null, .null, .null, .int (nI 0), .null, .int (nI 0), .null, .null])), (q1, .inl (cj, 40, .inr (.inl xz0.fol))), (q2, .inl (cj, 4, .inr (.inl xz0.lp))), (q3, .inl (cj, 40, .inr (.inl xz0.fi)))]) rfl ?_
  refine n_putF (pc := 24) (ws' := [(h0, .inr (0, [.int (nI 0), .int (nI 0), .ref q1, .ref q2, .int (nI 0), .ref q3, .null, .null, .int (nI 0), .null, .null, .null, .int (nI 0), .null, .null, .null, .int (nI 0), .null, .int (nI 0), .null, .null])), (q1, .inl (cj, 40, .inr (.inl xz0.fol))), (q2, .inl (cj, 4, .inr (.inl xz0.lp))), (q3, .inl (cj, 40, .inr (.inl xz0.fi)))]) C hin in_X0 tyX0_ok nmX0 0 rfl rfl 5 (by decide) q42 rfl rfl rfl (ty := tyX0 5) (by decide +kernel) rfl rfl (Nat.le_of_ble_eq_true rfl) rfl dX0_init_24 ?_
  refine n_aload (pc := 27) C dX0_init_27 ?_
  refine n_bipush (pc := 28) C dX0_init_28 cb_40 ?_
  refine n_newa (pc := 30) (atype := .long) (a0 := (40, .inr (.inl xz0.la))) C q101 (ty := .long) rfl (fun _ _ => rfl) 1 (cA := cj) rfl (fun _ => rfl) (by decide) (Nat.le_of_ble_eq_true rfl) (Nat.le_of_ble_eq_true rfl) (Nat.le_of_ble_eq_true rfl) dX0_init_30 (fun q4 => ?_)
  refine n_ws (ws' := [(h0, .inr (0, [.int (nI 0), .int (nI 0), .ref q1, .ref q2, .int (nI 0), .ref q3, .null, .null, .int (nI 0), .null, .null, .null, .int (nI 0), .null, .null, .null, .int (nI 0), .null, .int (nI 0), .null, .null])), (q1, .inl (cj, 40, .inr (.inl xz0.fol))), (q2, .inl (cj, 4, .inr (.inl xz0.lp))), (q3, .inl (cj, 40, .inr (.inl xz0.fi))), (q4, .inl (cj, 40, .inr (.inl xz0.la)))]) rfl ?_
  refine n_putF (pc := 32) (ws' := [(h0, .inr (0, [.int (nI 0), .int (nI 0), .ref q1, .ref q2, .int (nI 0), .ref q3, .ref q4, .null, .int (nI 0), .null, .null, .null, .int (nI 0), .null, .null, .null, .int (nI 0), .null, .int (nI 0), .null, .null])), (q1, .inl (cj, 40, .inr (.inl xz0.fol))), (q2, .inl (cj, 4, .inr (.inl xz0.lp))), (q3, .inl (cj, 40, .inr (.inl xz0.fi))), (q4, .inl (cj, 40, .inr (.inl xz0.la)))]) C hin in_X0 tyX0_ok nmX0 0 rfl rfl 6 (by decide) q43 rfl rfl rfl (ty := tyX0 6) (by decide +kernel) rfl rfl (Nat.le_of_ble_eq_true rfl) rfl dX0_init_32 ?_
  refine n_aload (pc := 35) C dX0_init_35 ?_
  refine n_bipush (pc := 36) C dX0_init_36 cb_40 ?_
  refine n_newa (pc := 38) (atype := .boolean) (a0 := (40, .inl (fun j => bI (xz0.em j)))) C q102 (ty := .boolean) rfl (fun _ _ => rfl) 2 (cA := cz) rfl (fun _ => rfl) (by decide) (Nat.le_of_ble_eq_true rfl) (Nat.le_of_ble_eq_true rfl) (Nat.le_of_ble_eq_true rfl) dX0_init_38 (fun q5 => ?_)
  refine n_ws (ws' := [(h0, .inr (0, [.int (nI 0), .int (nI 0), .ref q1, .ref q2, .int (nI 0), .ref q3, .ref q4, .null, .int (nI 0), .null, .null, .null, .int (nI 0), .null, .null, .null, .int (nI 0), .null, .int (nI 0), .null, .null])), (q1, .inl (cj, 40, .inr (.inl xz0.fol))), (q2, .inl (cj, 4, .inr (.inl xz0.lp))), (q3, .inl (cj, 40, .inr (.inl xz0.fi))), (q4, .inl (cj, 40, .inr (.inl xz0.la))), (q5, .inl (cz, 40, .inl (fun j => bI (xz0.em j))))]) rfl ?_
  refine n_putF (pc := 40) (ws' := [(h0, .inr (0, [.int (nI 0), .int (nI 0), .ref q1, .ref q2, .int (nI 0), .ref q3, .ref q4, .ref q5, .int (nI 0), .null, .null, .null, .int (nI 0), .null, .null, .null, .int (nI 0), .null, .int (nI 0), .null, .null])), (q1, .inl (cj, 40, .inr (.inl xz0.fol))), (q2, .inl (cj, 4, .inr (.inl xz0.lp))), (q3, .inl (cj, 40, .inr (.inl xz0.fi))), (q4, .inl (cj, 40, .inr (.inl xz0.la))), (q5, .inl (cz, 40, .inl (fun j => bI (xz0.em j))))]) C hin in_X0 tyX0_ok nmX0 0 rfl rfl 7 (by decide) q44 rfl rfl rfl (ty := tyX0 7) (by decide +kernel) rfl rfl (Nat.le_of_ble_eq_true rfl) rfl dX0_init_40 ?_
  refine n_aload (pc := 43) C dX0_init_43 ?_
  refine n_iconst (pc := 44) C dX0_init_44 ci_5 ?_
  refine n_newa (pc := 45) (atype := .long) (a0 := (5, .inr (.inl xz0.rf))) C q101 (ty := .long) rfl (fun _ _ => rfl) 1 (cA := cj) rfl (fun _ => rfl) (by decide) (Nat.le_of_ble_eq_true rfl) (Nat.le_of_ble_eq_true rfl) (Nat.le_of_ble_eq_true rfl) dX0_init_45 (fun q6 => ?_)
  refine n_ws (ws' := [(h0, .inr (0, [.int (nI 0), .int (nI 0), .ref q1, .ref q2, .int (nI 0), .ref q3, .ref q4, .ref q5, .int (nI 0), .null, .null, .null, .int (nI 0), .null, .null, .null, .int (nI 0), .null, .int (nI 0), .null, .null])), (q1, .inl (cj, 40, .inr (.inl xz0.fol))), (q2, .inl (cj, 4, .inr (.inl xz0.lp))), (q3, .inl (cj, 40, .inr (.inl xz0.fi))), (q4, .inl (cj, 40, .inr (.inl xz0.la))), (q5, .inl (cz, 40, .inl (fun j => bI (xz0.em j)))), (q6, .inl (cj, 5, .inr (.inl xz0.rf)))]) rfl ?_
  refine n_putF (pc := 47) (ws' := [(h0, .inr (0, [.int (nI 0), .int (nI 0), .ref q1, .ref q2, .int (nI 0), .ref q3, .ref q4, .ref q5, .int (nI 0), .ref q6, .null, .null, .int (nI 0), .null, .null, .null, .int (nI 0), .null, .int (nI 0), .null, .null])), (q1, .inl (cj, 40, .inr (.inl xz0.fol))), (q2, .inl (cj, 4, .inr (.inl xz0.lp))), (q3, .inl (cj, 40, .inr (.inl xz0.fi))), (q4, .inl (cj, 40, .inr (.inl xz0.la))), (q5, .inl (cz, 40, .inl (fun j => bI (xz0.em j)))), (q6, .inl (cj, 5, .inr (.inl xz0.rf)))]) C hin in_X0 tyX0_ok nmX0 0 rfl rfl 9 (by decide) q46 rfl rfl rfl (ty := tyX0 9) (by decide +kernel) rfl rfl (Nat.le_of_ble_eq_true rfl) rfl dX0_init_47 ?_
  refine n_aload (pc := 50) C dX0_init_50 ?_
  refine n_iconst (pc := 51) C dX0_init_51 ci_5 ?_
  refine n_newa (pc := 52) (atype := .long) (a0 := (5, .inr (.inl xz0.rl))) C q101 (ty := .long) rfl (fun _ _ => rfl) 1 (cA := cj) rfl (fun _ => rfl) (by decide) (Nat.le_of_ble_eq_true rfl) (Nat.le_of_ble_eq_true rfl) (Nat.le_of_ble_eq_true rfl) dX0_init_52 (fun q7 => ?_)
  refine n_ws (ws' := [(h0, .inr (0, [.int (nI 0), .int (nI 0), .ref q1, .ref q2, .int (nI 0), .ref q3, .ref q4, .ref q5, .int (nI 0), .ref q6, .null, .null, .int (nI 0), .null, .null, .null, .int (nI 0), .null, .int (nI 0), .null, .null])), (q1, .inl (cj, 40, .inr (.inl xz0.fol))), (q2, .inl (cj, 4, .inr (.inl xz0.lp))), (q3, .inl (cj, 40, .inr (.inl xz0.fi))), (q4, .inl (cj, 40, .inr (.inl xz0.la))), (q5, .inl (cz, 40, .inl (fun j => bI (xz0.em j)))), (q6, .inl (cj, 5, .inr (.inl xz0.rf))), (q7, .inl (cj, 5, .inr (.inl xz0.rl)))]) rfl ?_
  refine n_putF (pc := 54) (ws' := [(h0, .inr (0, [.int (nI 0), .int (nI 0), .ref q1, .ref q2, .int (nI 0), .ref q3, .ref q4, .ref q5, .int (nI 0), .ref q6, .ref q7, .null, .int (nI 0), .null, .null, .null, .int (nI 0), .null, .int (nI 0), .null, .null])), (q1, .inl (cj, 40, .inr (.inl xz0.fol))), (q2, .inl (cj, 4, .inr (.inl xz0.lp))), (q3, .inl (cj, 40, .inr (.inl xz0.fi))), (q4, .inl (cj, 40, .inr (.inl xz0.la))), (q5, .inl (cz, 40, .inl (fun j => bI (xz0.em j)))), (q6, .inl (cj, 5, .inr (.inl xz0.rf))), (q7, .inl (cj, 5, .inr (.inl xz0.rl)))]) C hin in_X0 tyX0_ok nmX0 0 rfl rfl 10 (by decide) q47 rfl rfl rfl (ty := tyX0 10) (by decide +kernel) rfl rfl (Nat.le_of_ble_eq_true rfl) rfl dX0_init_54 ?_
  refine n_aload (pc := 57) C dX0_init_57 ?_
  refine n_iconst (pc := 58) C dX0_init_58 ci_5 ?_
  refine n_newa (pc := 59) (atype := .boolean) (a0 := (5, .inl (fun j => bI (xz0.re j)))) C q102 (ty := .boolean) rfl (fun _ _ => rfl) 2 (cA := cz) rfl (fun _ => rfl) (by decide) (Nat.le_of_ble_eq_true rfl) (Nat.le_of_ble_eq_true rfl) (Nat.le_of_ble_eq_true rfl) dX0_init_59 (fun q8 => ?_)
  refine n_ws (ws' := [(h0, .inr (0, [.int (nI 0), .int (nI 0), .ref q1, .ref q2, .int (nI 0), .ref q3, .ref q4, .ref q5, .int (nI 0), .ref q6, .ref q7, .null, .int (nI 0), .null, .null, .null, .int (nI 0), .null, .int (nI 0), .null, .null])), (q1, .inl (cj, 40, .inr (.inl xz0.fol))), (q2, .inl (cj, 4, .inr (.inl xz0.lp))), (q3, .inl (cj, 40, .inr (.inl xz0.fi))), (q4, .inl (cj, 40, .inr (.inl xz0.la))), (q5, .inl (cz, 40, .inl (fun j => bI (xz0.em j)))), (q6, .inl (cj, 5, .inr (.inl xz0.rf))), (q7, .inl (cj, 5, .inr (.inl xz0.rl))), (q8, .inl (cz, 5, .inl (fun j => bI (xz0.re j))))]) rfl ?_
  refine n_putF (pc := 61) (ws' := [(h0, .inr (0, [.int (nI 0), .int (nI 0), .ref q1, .ref q2, .int (nI 0), .ref q3, .ref q4, .ref q5, .int (nI 0), .ref q6, .ref q7, .ref q8, .int (nI 0), .null, .null, .null, .int (nI 0), .null, .int (nI 0), .null, .null])), (q1, .inl (cj, 40, .inr (.inl xz0.fol))), (q2, .inl (cj, 4, .inr (.inl xz0.lp))), (q3, .inl (cj, 40, .inr (.inl xz0.fi))), (q4, .inl (cj, 40, .inr (.inl xz0.la))), (q5, .inl (cz, 40, .inl (fun j => bI (xz0.em j)))), (q6, .inl (cj, 5, .inr (.inl xz0.rf))), (q7, .inl (cj, 5, .inr (.inl xz0.rl))), (q8, .inl (cz, 5, .inl (fun j => bI (xz0.re j))))]) C hin in_X0 tyX0_ok nmX0 0 rfl rfl 11 (by decide) q48 rfl rfl rfl (ty := tyX0 11) (by decide +kernel) rfl rfl (Nat.le_of_ble_eq_true rfl) rfl dX0_init_61 ?_
  refine n_aload (pc := 64) C dX0_init_64 ?_
  refine n_bipush (pc := 65) C dX0_init_65 cb_48 ?_
  refine n_newa (pc := 67) (atype := .long) (a0 := (48, .inr (.inl xz0.sset))) C q101 (ty := .long) rfl (fun _ _ => rfl) 1 (cA := cj) rfl (fun _ => rfl) (by decide) (Nat.le_of_ble_eq_true rfl) (Nat.le_of_ble_eq_true rfl) (Nat.le_of_ble_eq_true rfl) dX0_init_67 (fun q9 => ?_)
  refine n_ws (ws' := [(h0, .inr (0, [.int (nI 0), .int (nI 0), .ref q1, .ref q2, .int (nI 0), .ref q3, .ref q4, .ref q5, .int (nI 0), .ref q6, .ref q7, .ref q8, .int (nI 0), .null, .null, .null, .int (nI 0), .null, .int (nI 0), .null, .null])), (q1, .inl (cj, 40, .inr (.inl xz0.fol))), (q2, .inl (cj, 4, .inr (.inl xz0.lp))), (q3, .inl (cj, 40, .inr (.inl xz0.fi))), (q4, .inl (cj, 40, .inr (.inl xz0.la))), (q5, .inl (cz, 40, .inl (fun j => bI (xz0.em j)))), (q6, .inl (cj, 5, .inr (.inl xz0.rf))), (q7, .inl (cj, 5, .inr (.inl xz0.rl))), (q8, .inl (cz, 5, .inl (fun j => bI (xz0.re j)))), (q9, .inl (cj, 48, .inr (.inl xz0.sset)))]) rfl ?_
  refine n_putF (pc := 69) (ws' := [(h0, .inr (0, [.int (nI 0), .int (nI 0), .ref q1, .ref q2, .int (nI 0), .ref q3, .ref q4, .ref q5, .int (nI 0), .ref q6, .ref q7, .ref q8, .int (nI 0), .ref q9, .null, .null, .int (nI 0), .null, .int (nI 0), .null, .null])), (q1, .inl (cj, 40, .inr (.inl xz0.fol))), (q2, .inl (cj, 4, .inr (.inl xz0.lp))), (q3, .inl (cj, 40, .inr (.inl xz0.fi))), (q4, .inl (cj, 40, .inr (.inl xz0.la))), (q5, .inl (cz, 40, .inl (fun j => bI (xz0.em j)))), (q6, .inl (cj, 5, .inr (.inl xz0.rf))), (q7, .inl (cj, 5, .inr (.inl xz0.rl))), (q8, .inl (cz, 5, .inl (fun j => bI (xz0.re j)))), (q9, .inl (cj, 48, .inr (.inl xz0.sset)))]) C hin in_X0 tyX0_ok nmX0 0 rfl rfl 13 (by decide) q50 rfl rfl rfl (ty := tyX0 13) (by decide +kernel) rfl rfl (Nat.le_of_ble_eq_true rfl) rfl dX0_init_69 ?_
  refine n_aload (pc := 72) C dX0_init_72 ?_
  refine n_sipush (pc := 73) C dX0_init_73 cs_192 ?_
  refine n_newa (pc := 76) (atype := .int) (a0 := (192, .inl xz0.nxt)) C q103 (ty := .int) rfl (fun _ _ => rfl) 0 (cA := ci) rfl (fun _ => rfl) (by decide) (Nat.le_of_ble_eq_true rfl) (Nat.le_of_ble_eq_true rfl) (Nat.le_of_ble_eq_true rfl) dX0_init_76 (fun q10 => ?_)
  refine n_ws (ws' := [(h0, .inr (0, [.int (nI 0), .int (nI 0), .ref q1, .ref q2, .int (nI 0), .ref q3, .ref q4, .ref q5, .int (nI 0), .ref q6, .ref q7, .ref q8, .int (nI 0), .ref q9, .null, .null, .int (nI 0), .null, .int (nI 0), .null, .null])), (q1, .inl (cj, 40, .inr (.inl xz0.fol))), (q2, .inl (cj, 4, .inr (.inl xz0.lp))), (q3, .inl (cj, 40, .inr (.inl xz0.fi))), (q4, .inl (cj, 40, .inr (.inl xz0.la))), (q5, .inl (cz, 40, .inl (fun j => bI (xz0.em j)))), (q6, .inl (cj, 5, .inr (.inl xz0.rf))), (q7, .inl (cj, 5, .inr (.inl xz0.rl))), (q8, .inl (cz, 5, .inl (fun j => bI (xz0.re j)))), (q9, .inl (cj, 48, .inr (.inl xz0.sset))), (q10, .inl (ci, 192, .inl xz0.nxt))]) rfl ?_
  refine n_putF (pc := 78) (ws' := [(h0, .inr (0, [.int (nI 0), .int (nI 0), .ref q1, .ref q2, .int (nI 0), .ref q3, .ref q4, .ref q5, .int (nI 0), .ref q6, .ref q7, .ref q8, .int (nI 0), .ref q9, .ref q10, .null, .int (nI 0), .null, .int (nI 0), .null, .null])), (q1, .inl (cj, 40, .inr (.inl xz0.fol))), (q2, .inl (cj, 4, .inr (.inl xz0.lp))), (q3, .inl (cj, 40, .inr (.inl xz0.fi))), (q4, .inl (cj, 40, .inr (.inl xz0.la))), (q5, .inl (cz, 40, .inl (fun j => bI (xz0.em j)))), (q6, .inl (cj, 5, .inr (.inl xz0.rf))), (q7, .inl (cj, 5, .inr (.inl xz0.rl))), (q8, .inl (cz, 5, .inl (fun j => bI (xz0.re j)))), (q9, .inl (cj, 48, .inr (.inl xz0.sset))), (q10, .inl (ci, 192, .inl xz0.nxt))]) C hin in_X0 tyX0_ok nmX0 0 rfl rfl 14 (by decide) q51 rfl rfl rfl (ty := tyX0 14) (by decide +kernel) rfl rfl (Nat.le_of_ble_eq_true rfl) rfl dX0_init_78 ?_
  refine n_aload (pc := 81) C dX0_init_81 ?_
  refine n_bipush (pc := 82) C dX0_init_82 cb_48 ?_
  refine n_newa (pc := 84) (atype := .int) (a0 := (48, .inl xz0.ends)) C q103 (ty := .int) rfl (fun _ _ => rfl) 0 (cA := ci) rfl (fun _ => rfl) (by decide) (Nat.le_of_ble_eq_true rfl) (Nat.le_of_ble_eq_true rfl) (Nat.le_of_ble_eq_true rfl) dX0_init_84 (fun q11 => ?_)
  refine n_ws (ws' := [(h0, .inr (0, [.int (nI 0), .int (nI 0), .ref q1, .ref q2, .int (nI 0), .ref q3, .ref q4, .ref q5, .int (nI 0), .ref q6, .ref q7, .ref q8, .int (nI 0), .ref q9, .ref q10, .null, .int (nI 0), .null, .int (nI 0), .null, .null])), (q1, .inl (cj, 40, .inr (.inl xz0.fol))), (q2, .inl (cj, 4, .inr (.inl xz0.lp))), (q3, .inl (cj, 40, .inr (.inl xz0.fi))), (q4, .inl (cj, 40, .inr (.inl xz0.la))), (q5, .inl (cz, 40, .inl (fun j => bI (xz0.em j)))), (q6, .inl (cj, 5, .inr (.inl xz0.rf))), (q7, .inl (cj, 5, .inr (.inl xz0.rl))), (q8, .inl (cz, 5, .inl (fun j => bI (xz0.re j)))), (q9, .inl (cj, 48, .inr (.inl xz0.sset))), (q10, .inl (ci, 192, .inl xz0.nxt)), (q11, .inl (ci, 48, .inl xz0.ends))]) rfl ?_
  refine n_putF (pc := 86) (ws' := [(h0, .inr (0, [.int (nI 0), .int (nI 0), .ref q1, .ref q2, .int (nI 0), .ref q3, .ref q4, .ref q5, .int (nI 0), .ref q6, .ref q7, .ref q8, .int (nI 0), .ref q9, .ref q10, .ref q11, .int (nI 0), .null, .int (nI 0), .null, .null])), (q1, .inl (cj, 40, .inr (.inl xz0.fol))), (q2, .inl (cj, 4, .inr (.inl xz0.lp))), (q3, .inl (cj, 40, .inr (.inl xz0.fi))), (q4, .inl (cj, 40, .inr (.inl xz0.la))), (q5, .inl (cz, 40, .inl (fun j => bI (xz0.em j)))), (q6, .inl (cj, 5, .inr (.inl xz0.rf))), (q7, .inl (cj, 5, .inr (.inl xz0.rl))), (q8, .inl (cz, 5, .inl (fun j => bI (xz0.re j)))), (q9, .inl (cj, 48, .inr (.inl xz0.sset))), (q10, .inl (ci, 192, .inl xz0.nxt)), (q11, .inl (ci, 48, .inl xz0.ends))]) C hin in_X0 tyX0_ok nmX0 0 rfl rfl 15 (by decide) q52 rfl rfl rfl (ty := tyX0 15) (by decide +kernel) rfl rfl (Nat.le_of_ble_eq_true rfl) rfl dX0_init_86 ?_
  refine n_aload (pc := 89) C dX0_init_89 ?_
  refine n_bipush (pc := 90) C dX0_init_90 cb_30 ?_
  refine n_newa (pc := 92) (atype := .int) (a0 := (30, .inl (fun j => nI (xz0.txt j)))) C q103 (ty := .int) rfl (fun _ _ => rfl) 0 (cA := ci) rfl (fun _ => rfl) (by decide) (Nat.le_of_ble_eq_true rfl) (Nat.le_of_ble_eq_true rfl) (Nat.le_of_ble_eq_true rfl) dX0_init_92 (fun q12 => ?_)
  refine n_ws (ws' := [(h0, .inr (0, [.int (nI 0), .int (nI 0), .ref q1, .ref q2, .int (nI 0), .ref q3, .ref q4, .ref q5, .int (nI 0), .ref q6, .ref q7, .ref q8, .int (nI 0), .ref q9, .ref q10, .ref q11, .int (nI 0), .null, .int (nI 0), .null, .null])), (q1, .inl (cj, 40, .inr (.inl xz0.fol))), (q2, .inl (cj, 4, .inr (.inl xz0.lp))), (q3, .inl (cj, 40, .inr (.inl xz0.fi))), (q4, .inl (cj, 40, .inr (.inl xz0.la))), (q5, .inl (cz, 40, .inl (fun j => bI (xz0.em j)))), (q6, .inl (cj, 5, .inr (.inl xz0.rf))), (q7, .inl (cj, 5, .inr (.inl xz0.rl))), (q8, .inl (cz, 5, .inl (fun j => bI (xz0.re j)))), (q9, .inl (cj, 48, .inr (.inl xz0.sset))), (q10, .inl (ci, 192, .inl xz0.nxt)), (q11, .inl (ci, 48, .inl xz0.ends)), (q12, .inl (ci, 30, .inl (fun j => nI (xz0.txt j))))]) rfl ?_
  refine n_putF (pc := 94) (ws' := [(h0, .inr (0, [.int (nI 0), .int (nI 0), .ref q1, .ref q2, .int (nI 0), .ref q3, .ref q4, .ref q5, .int (nI 0), .ref q6, .ref q7, .ref q8, .int (nI 0), .ref q9, .ref q10, .ref q11, .int (nI 0), .ref q12, .int (nI 0), .null, .null])), (q1, .inl (cj, 40, .inr (.inl xz0.fol))), (q2, .inl (cj, 4, .inr (.inl xz0.lp))), (q3, .inl (cj, 40, .inr (.inl xz0.fi))), (q4, .inl (cj, 40, .inr (.inl xz0.la))), (q5, .inl (cz, 40, .inl (fun j => bI (xz0.em j)))), (q6, .inl (cj, 5, .inr (.inl xz0.rf))), (q7, .inl (cj, 5, .inr (.inl xz0.rl))), (q8, .inl (cz, 5, .inl (fun j => bI (xz0.re j)))), (q9, .inl (cj, 48, .inr (.inl xz0.sset))), (q10, .inl (ci, 192, .inl xz0.nxt)), (q11, .inl (ci, 48, .inl xz0.ends)), (q12, .inl (ci, 30, .inl (fun j => nI (xz0.txt j))))]) C hin in_X0 tyX0_ok nmX0 0 rfl rfl 17 (by decide) q54 rfl rfl rfl (ty := tyX0 17) (by decide +kernel) rfl rfl (Nat.le_of_ble_eq_true rfl) rfl dX0_init_94 ?_
  refine n_aload (pc := 97) C dX0_init_97 ?_
  refine n_bipush (pc := 98) C dX0_init_98 cb_30 ?_
  refine n_newa (pc := 100) (atype := .int) (a0 := (30, .inl xz0.wso)) C q103 (ty := .int) rfl (fun _ _ => rfl) 0 (cA := ci) rfl (fun _ => rfl) (by decide) (Nat.le_of_ble_eq_true rfl) (Nat.le_of_ble_eq_true rfl) (Nat.le_of_ble_eq_true rfl) dX0_init_100 (fun q13 => ?_)
  refine n_ws (ws' := [(h0, .inr (0, [.int (nI 0), .int (nI 0), .ref q1, .ref q2, .int (nI 0), .ref q3, .ref q4, .ref q5, .int (nI 0), .ref q6, .ref q7, .ref q8, .int (nI 0), .ref q9, .ref q10, .ref q11, .int (nI 0), .ref q12, .int (nI 0), .null, .null])), (q1, .inl (cj, 40, .inr (.inl xz0.fol))), (q2, .inl (cj, 4, .inr (.inl xz0.lp))), (q3, .inl (cj, 40, .inr (.inl xz0.fi))), (q4, .inl (cj, 40, .inr (.inl xz0.la))), (q5, .inl (cz, 40, .inl (fun j => bI (xz0.em j)))), (q6, .inl (cj, 5, .inr (.inl xz0.rf))), (q7, .inl (cj, 5, .inr (.inl xz0.rl))), (q8, .inl (cz, 5, .inl (fun j => bI (xz0.re j)))), (q9, .inl (cj, 48, .inr (.inl xz0.sset))), (q10, .inl (ci, 192, .inl xz0.nxt)), (q11, .inl (ci, 48, .inl xz0.ends)), (q12, .inl (ci, 30, .inl (fun j => nI (xz0.txt j)))), (q13, .inl (ci, 30, .inl xz0.wso))]) rfl ?_
  refine n_putF (pc := 102) (ws' := [(h0, .inr (0, [.int (nI 0), .int (nI 0), .ref q1, .ref q2, .int (nI 0), .ref q3, .ref q4, .ref q5, .int (nI 0), .ref q6, .ref q7, .ref q8, .int (nI 0), .ref q9, .ref q10, .ref q11, .int (nI 0), .ref q12, .int (nI 0), .ref q13, .null])), (q1, .inl (cj, 40, .inr (.inl xz0.fol))), (q2, .inl (cj, 4, .inr (.inl xz0.lp))), (q3, .inl (cj, 40, .inr (.inl xz0.fi))), (q4, .inl (cj, 40, .inr (.inl xz0.la))), (q5, .inl (cz, 40, .inl (fun j => bI (xz0.em j)))), (q6, .inl (cj, 5, .inr (.inl xz0.rf))), (q7, .inl (cj, 5, .inr (.inl xz0.rl))), (q8, .inl (cz, 5, .inl (fun j => bI (xz0.re j)))), (q9, .inl (cj, 48, .inr (.inl xz0.sset))), (q10, .inl (ci, 192, .inl xz0.nxt)), (q11, .inl (ci, 48, .inl xz0.ends)), (q12, .inl (ci, 30, .inl (fun j => nI (xz0.txt j)))), (q13, .inl (ci, 30, .inl xz0.wso))]) C hin in_X0 tyX0_ok nmX0 0 rfl rfl 19 (by decide) q56 rfl rfl rfl (ty := tyX0 19) (by decide +kernel) rfl rfl (Nat.le_of_ble_eq_true rfl) rfl dX0_init_102 ?_
  refine n_aload (pc := 105) C dX0_init_105 ?_
  refine n_bipush (pc := 106) C dX0_init_106 cb_30 ?_
  refine n_newa (pc := 108) (atype := .int) (a0 := (30, .inl (fun j => nI (xz0.wle j)))) C q103 (ty := .int) rfl (fun _ _ => rfl) 0 (cA := ci) rfl (fun _ => rfl) (by decide) (Nat.le_of_ble_eq_true rfl) (Nat.le_of_ble_eq_true rfl) (Nat.le_of_ble_eq_true rfl) dX0_init_108 (fun q14 => ?_)
  refine n_ws (ws' := [(h0, .inr (0, [.int (nI 0), .int (nI 0), .ref q1, .ref q2, .int (nI 0), .ref q3, .ref q4, .ref q5, .int (nI 0), .ref q6, .ref q7, .ref q8, .int (nI 0), .ref q9, .ref q10, .ref q11, .int (nI 0), .ref q12, .int (nI 0), .ref q13, .null])), (q1, .inl (cj, 40, .inr (.inl xz0.fol))), (q2, .inl (cj, 4, .inr (.inl xz0.lp))), (q3, .inl (cj, 40, .inr (.inl xz0.fi))), (q4, .inl (cj, 40, .inr (.inl xz0.la))), (q5, .inl (cz, 40, .inl (fun j => bI (xz0.em j)))), (q6, .inl (cj, 5, .inr (.inl xz0.rf))), (q7, .inl (cj, 5, .inr (.inl xz0.rl))), (q8, .inl (cz, 5, .inl (fun j => bI (xz0.re j)))), (q9, .inl (cj, 48, .inr (.inl xz0.sset))), (q10, .inl (ci, 192, .inl xz0.nxt)), (q11, .inl (ci, 48, .inl xz0.ends)), (q12, .inl (ci, 30, .inl (fun j => nI (xz0.txt j)))), (q13, .inl (ci, 30, .inl xz0.wso)), (q14, .inl (ci, 30, .inl (fun j => nI (xz0.wle j))))]) rfl ?_
  refine n_putF (pc := 110) (ws' := [(h0, .inr (0, [.int (nI 0), .int (nI 0), .ref q1, .ref q2, .int (nI 0), .ref q3, .ref q4, .ref q5, .int (nI 0), .ref q6, .ref q7, .ref q8, .int (nI 0), .ref q9, .ref q10, .ref q11, .int (nI 0), .ref q12, .int (nI 0), .ref q13, .ref q14])), (q1, .inl (cj, 40, .inr (.inl xz0.fol))), (q2, .inl (cj, 4, .inr (.inl xz0.lp))), (q3, .inl (cj, 40, .inr (.inl xz0.fi))), (q4, .inl (cj, 40, .inr (.inl xz0.la))), (q5, .inl (cz, 40, .inl (fun j => bI (xz0.em j)))), (q6, .inl (cj, 5, .inr (.inl xz0.rf))), (q7, .inl (cj, 5, .inr (.inl xz0.rl))), (q8, .inl (cz, 5, .inl (fun j => bI (xz0.re j)))), (q9, .inl (cj, 48, .inr (.inl xz0.sset))), (q10, .inl (ci, 192, .inl xz0.nxt)), (q11, .inl (ci, 48, .inl xz0.ends)), (q12, .inl (ci, 30, .inl (fun j => nI (xz0.txt j)))), (q13, .inl (ci, 30, .inl xz0.wso)), (q14, .inl (ci, 30, .inl (fun j => nI (xz0.wle j))))]) C hin in_X0 tyX0_ok nmX0 0 rfl rfl 20 (by decide) q57 rfl rfl rfl (ty := tyX0 20) (by decide +kernel) rfl rfl (Nat.le_of_ble_eq_true rfl) rfl dX0_init_110 ?_
  refine n_aload (pc := 113) C dX0_init_113 ?_
  refine n_ws (ws' := xW (fun k => [h0, q1, q2, q3, q4, q5, q6, q7, q8, q9, q10, q11, q12, q13, q14].getD k 0) ci cj cz xz0) rfl ?_
  refine n_callv (pc := 114) (a := h0) (nB := 15) C (met_x_emptyTable (ad := (fun k => [h0, q1, q2, q3, q4, q5, q6, q7, q8, q9, q10, q11, q12, q13, q14].getD k 0)) xz0 (Nat.zero_le _)) (lw_V q33 q35 qs0 q23 q36) (by decide +kernel) ⟨by decide, by decide⟩ ⟨Nat.le_of_ble_eq_true rfl, Nat.le_of_ble_eq_true rfl⟩ (ci := 0) (q0 := 0) rfl rfl rfl xW_has dX0_init_114 (fun u hu => ?_)
  subst hu
  exact n_vret (pc := 117) C hr hQ (fun k => [h0, q1, q2, q3, q4, q5, q6, q7, q8, q9, q10, q11, q12, q13, q14].getD k 0) rfl rfl dX0_init_117
end NX0
section NX1
abbrev zX1 : List Value := [.int (nI 0), .null, .null, .null, .null, .int (nI 0), .null, .int (nI 0), .null, .int (nI 0), .null, .int (nI 0), .null, .null]
abbrev rmX1 : Room := { frames := 1, cells := 9, slots := 38705, locals := 32 }
set_option maxHeartbeats 8000000 in
theorem met_m_init {l : Launch} {D : va_G} {ci cj cz : ClassId} (h0 : Nat) : vMn l D (vTy ci cj cz) yX1_init cX1_init rmX1 h0 [(h0, .inr (1, zX1))] (fun ad : Nat → Nat => ad 0 = h0) (fun ad => mW ad ci cj cz mz0) := by
  refine vMn_of (by decide) rfl ?_
  intro X C hin hr hQ hXl hXD
  refine n_aload (pc := 0) C dX1_init_0 ?_
  refine n_obj (pc := 1) C q201 q31 q32 ⟨by decide, by decide⟩ dX1_init_1 ?_
  refine n_aload (pc := 4) C dX1_init_4 ?_
  refine n_bipush (pc := 5) C dX1_init_5 cb_40 ?_
  refine n_newa (pc := 7) (atype := .int) (a0 := (40, .inl (fun j => nI (mz0.cod j)))) C q103 (ty := .int) rfl (fun _ _ => rfl) 0 (cA := ci) rfl (fun _ => rfl) (by decide) (Nat.le_of_ble_eq_true rfl) (Nat.le_of_ble_eq_true rfl) (Nat.le_of_ble_eq_true rfl) dX1_init_7 (fun q1 => ?_)
  refine n_ws (ws' := [(h0, .inr (1, [.int (nI 0), .null, .null, .null, .null, .int (nI 0), .null, .int (nI 0), .null, .int (nI 0), .null, .int (nI 0), .null, .null])), (q1, .inl (ci, 40, .inl (fun j => nI (mz0.cod j))))]) rfl ?_
  refine n_putF (pc := 9) (ws' := [(h0, .inr (1, [.int (nI 0), .ref q1, .null, .null, .null, .int (nI 0), .null, .int (nI 0), .null, .int (nI 0), .null, .int (nI 0), .null, .null])), (q1, .inl (ci, 40, .inl (fun j => nI (mz0.cod j))))]) C hin in_X1 tyX1_ok nmX1 0 rfl rfl 1 (by decide) q204 rfl rfl rfl (ty := tyX1 1) (by decide +kernel) rfl rfl (Nat.le_of_ble_eq_true rfl) rfl dX1_init_9 ?_
  refine n_aload (pc := 12) C dX1_init_12 ?_
  refine n_bipush (pc := 13) C dX1_init_13 cb_40 ?_
  refine n_newa (pc := 15) (atype := .int) (a0 := (40, .inl (fun j => nI (mz0.arg j)))) C q103 (ty := .int) rfl (fun _ _ => rfl) 0 (cA := ci) rfl (fun _ => rfl) (by decide) (Nat.le_of_ble_eq_true rfl) (Nat.le_of_ble_eq_true rfl) (Nat.le_of_ble_eq_true rfl) dX1_init_15 (fun q2 => ?_)
  refine n_ws (ws' := [(h0, .inr (1, [.int (nI 0), .ref q1, .null, .null, .null, .int (nI 0), .null, .int (nI 0), .null, .int (nI 0), .null, .int (nI 0), .null, .null])), (q1, .inl (ci, 40, .inl (fun j => nI (mz0.cod j)))), (q2, .inl (ci, 40, .inl (fun j => nI (mz0.arg j))))]) rfl ?_
  refine n_putF (pc := 17) (ws' := [(h0, .inr (1, [.int (nI 0), .ref q1, .ref q2, .null, .null, .int (nI 0), .null, .int (nI 0), .null, .int (nI 0), .null, .int (nI 0), .null, .null])), (q1, .inl (ci, 40, .inl (fun j => nI (mz0.cod j)))), (q2, .inl (ci, 40, .inl (fun j => nI (mz0.arg j))))]) C hin in_X1 tyX1_ok nmX1 0 rfl rfl 2 (by decide) q205 rfl rfl rfl (ty := tyX1 2) (by decide +kernel) rfl rfl (Nat.le_of_ble_eq_true rfl) rfl dX1_init_17 ?_
  refine n_aload (pc := 20) C dX1_init_20 ?_
  refine n_bipush (pc := 21) C dX1_init_21 cb_40 ?_
  refine n_newa (pc := 23) (atype := .int) (a0 := (40, .inl (fun j => nI (mz0.lef j)))) C q103 (ty := .int) rfl (fun _ _ => rfl) 0 (cA := ci) rfl (fun _ => rfl) (by decide) (Nat.le_of_ble_eq_true rfl) (Nat.le_of_ble_eq_true rfl) (Nat.le_of_ble_eq_true rfl) dX1_init_23 (fun q3 => ?_)
  refine n_ws (ws' := [(h0, .inr (1, [.int (nI 0), .ref q1, .ref q2, .null, .null, .int (nI 0), .null, .int (nI 0), .null, .int (nI 0), .null, .int (nI 0), .null, .null])), (q1, .inl (ci, 40, .inl (fun j => nI (mz0.cod j)))), (q2, .inl (ci, 40, .inl (fun j => nI (mz0.arg j)))), (q3, .inl (ci, 40, .inl (fun j => nI (mz0.lef j))))]) rfl ?_
  refine n_putF (pc := 25) (ws' := [(h0, .inr (1, [.int (nI 0), .ref q1, .ref q2, .ref q3, .null, .int (nI 0), .null, .int (nI 0), .null, .int (nI 0), .null, .int (nI 0), .null, .null])), (q1, .inl (ci, 40, .inl (fun j => nI (mz0.cod j)))), (q2, .inl (ci, 40, .inl (fun j => nI (mz0.arg j)))), (q3, .inl (ci, 40, .inl (fun j => nI (mz0.lef j))))]) C hin in_X1 tyX1_ok nmX1 0 rfl rfl 3 (by decide) q206 rfl rfl rfl (ty := tyX1 3) (by decide +kernel) rfl rfl (Nat.le_of_ble_eq_true rfl) rfl dX1_init_25 ?_
  refine n_aload (pc := 28) C dX1_init_28 ?_
  refine n_bipush (pc := 29) C dX1_init_29 cb_40 ?_
  refine n_newa (pc := 31) (atype := .int) (a0 := (40, .inl (fun j => nI (mz0.rig j)))) C q103 (ty := .int) rfl (fun _ _ => rfl) 0 (cA := ci) rfl (fun _ => rfl) (by decide) (Nat.le_of_ble_eq_true rfl) (Nat.le_of_ble_eq_true rfl) (Nat.le_of_ble_eq_true rfl) dX1_init_31 (fun q4 => ?_)
  refine n_ws (ws' := [(h0, .inr (1, [.int (nI 0), .ref q1, .ref q2, .ref q3, .null, .int (nI 0), .null, .int (nI 0), .null, .int (nI 0), .null, .int (nI 0), .null, .null])), (q1, .inl (ci, 40, .inl (fun j => nI (mz0.cod j)))), (q2, .inl (ci, 40, .inl (fun j => nI (mz0.arg j)))), (q3, .inl (ci, 40, .inl (fun j => nI (mz0.lef j)))), (q4, .inl (ci, 40, .inl (fun j => nI (mz0.rig j))))]) rfl ?_
  refine n_putF (pc := 33) (ws' := [(h0, .inr (1, [.int (nI 0), .ref q1, .ref q2, .ref q3, .ref q4, .int (nI 0), .null, .int (nI 0), .null, .int (nI 0), .null, .int (nI 0), .null, .null])), (q1, .inl (ci, 40, .inl (fun j => nI (mz0.cod j)))), (q2, .inl (ci, 40, .inl (fun j => nI (mz0.arg j)))), (q3, .inl (ci, 40, .inl (fun j => nI (mz0.lef j)))), (q4, .inl (ci, 40, .inl (fun j => nI (mz0.rig j))))]) C hin in_X1 tyX1_ok nmX1 0 rfl rfl 4 (by decide) q207 rfl rfl rfl (ty := tyX1 4) (by decide +kernel) rfl rfl (Nat.le_of_ble_eq_true rfl) rfl dX1_init_33 ?_
  refine n_aload (pc := 36) C dX1_init_36 ?_
  refine n_bipush (pc := 37) C dX1_init_37 cb_40 ?_
  refine n_newa (pc := 39) (atype := .int) (a0 := (40, .inl (fun j => nI (mz0.stk j)))) C q103 (ty := .int) rfl (fun _ _ => rfl) 0 (cA := ci) rfl (fun _ => rfl) (by decide) (Nat.le_of_ble_eq_true rfl) (Nat.le_of_ble_eq_true rfl) (Nat.le_of_ble_eq_true rfl) dX1_init_39 (fun q5 => ?_)
  refine n_ws (ws' := [(h0, .inr (1, [.int (nI 0), .ref q1, .ref q2, .ref q3, .ref q4, .int (nI 0), .null, .int (nI 0), .null, .int (nI 0), .null, .int (nI 0), .null, .null])), (q1, .inl (ci, 40, .inl (fun j => nI (mz0.cod j)))), (q2, .inl (ci, 40, .inl (fun j => nI (mz0.arg j)))), (q3, .inl (ci, 40, .inl (fun j => nI (mz0.lef j)))), (q4, .inl (ci, 40, .inl (fun j => nI (mz0.rig j)))), (q5, .inl (ci, 40, .inl (fun j => nI (mz0.stk j))))]) rfl ?_
  refine n_putF (pc := 41) (ws' := [(h0, .inr (1, [.int (nI 0), .ref q1, .ref q2, .ref q3, .ref q4, .int (nI 0), .ref q5, .int (nI 0), .null, .int (nI 0), .null, .int (nI 0), .null, .null])), (q1, .inl (ci, 40, .inl (fun j => nI (mz0.cod j)))), (q2, .inl (ci, 40, .inl (fun j => nI (mz0.arg j)))), (q3, .inl (ci, 40, .inl (fun j => nI (mz0.lef j)))), (q4, .inl (ci, 40, .inl (fun j => nI (mz0.rig j)))), (q5, .inl (ci, 40, .inl (fun j => nI (mz0.stk j))))]) C hin in_X1 tyX1_ok nmX1 0 rfl rfl 6 (by decide) q209 rfl rfl rfl (ty := tyX1 6) (by decide +kernel) rfl rfl (Nat.le_of_ble_eq_true rfl) rfl dX1_init_41 ?_
  refine n_aload (pc := 44) C dX1_init_44 ?_
  refine n_iconst (pc := 45) C dX1_init_45 ci_5 ?_
  refine n_newa (pc := 46) (atype := .int) (a0 := (5, .inl (fun j => nI (mz0.rof j)))) C q103 (ty := .int) rfl (fun _ _ => rfl) 0 (cA := ci) rfl (fun _ => rfl) (by decide) (Nat.le_of_ble_eq_true rfl) (Nat.le_of_ble_eq_true rfl) (Nat.le_of_ble_eq_true rfl) dX1_init_46 (fun q6 => ?_)
  refine n_ws (ws' := [(h0, .inr (1, [.int (nI 0), .ref q1, .ref q2, .ref q3, .ref q4, .int (nI 0), .ref q5, .int (nI 0), .null, .int (nI 0), .null, .int (nI 0), .null, .null])), (q1, .inl (ci, 40, .inl (fun j => nI (mz0.cod j)))), (q2, .inl (ci, 40, .inl (fun j => nI (mz0.arg j)))), (q3, .inl (ci, 40, .inl (fun j => nI (mz0.lef j)))), (q4, .inl (ci, 40, .inl (fun j => nI (mz0.rig j)))), (q5, .inl (ci, 40, .inl (fun j => nI (mz0.stk j)))), (q6, .inl (ci, 5, .inl (fun j => nI (mz0.rof j))))]) rfl ?_
  refine n_putF (pc := 48) (ws' := [(h0, .inr (1, [.int (nI 0), .ref q1, .ref q2, .ref q3, .ref q4, .int (nI 0), .ref q5, .int (nI 0), .ref q6, .int (nI 0), .null, .int (nI 0), .null, .null])), (q1, .inl (ci, 40, .inl (fun j => nI (mz0.cod j)))), (q2, .inl (ci, 40, .inl (fun j => nI (mz0.arg j)))), (q3, .inl (ci, 40, .inl (fun j => nI (mz0.lef j)))), (q4, .inl (ci, 40, .inl (fun j => nI (mz0.rig j)))), (q5, .inl (ci, 40, .inl (fun j => nI (mz0.stk j)))), (q6, .inl (ci, 5, .inl (fun j => nI (mz0.rof j))))]) C hin in_X1 tyX1_ok nmX1 0 rfl rfl 8 (by decide) q211 rfl rfl rfl (ty := tyX1 8) (by decide +kernel) rfl rfl (Nat.le_of_ble_eq_true rfl) rfl dX1_init_48 ?_
  refine n_aload (pc := 51) C dX1_init_51 ?_
  refine n_bipush (pc := 52) C dX1_init_52 cb_30 ?_
  refine n_newa (pc := 54) (atype := .int) (a0 := (30, .inl (fun j => nI (mz0.txt j)))) C q103 (ty := .int) rfl (fun _ _ => rfl) 0 (cA := ci) rfl (fun _ => rfl) (by decide) (Nat.le_of_ble_eq_true rfl) (Nat.le_of_ble_eq_true rfl) (Nat.le_of_ble_eq_true rfl) dX1_init_54 (fun q7 => ?_)
  refine n_ws (ws' := [(h0, .inr (1, [.int (nI 0), .ref q1, .ref q2, .ref q3, .ref q4, .int (nI 0), .ref q5, .int (nI 0), .ref q6, .int (nI 0), .null, .int (nI 0), .null, .null])), (q1, .inl (ci, 40, .inl (fun j => nI (mz0.cod j)))), (q2, .inl (ci, 40, .inl (fun j => nI (mz0.arg j)))), (q3, .inl (ci, 40, .inl (fun j => nI (mz0.lef j)))), (q4, .inl (ci, 40, .inl (fun j => nI (mz0.rig j)))), (q5, .inl (ci, 40, .inl (fun j => nI (mz0.stk j)))), (q6, .inl (ci, 5, .inl (fun j => nI (mz0.rof j)))), (q7, .inl (ci, 30, .inl (fun j => nI (mz0.txt j))))]) rfl ?_
  refine n_putF (pc := 56) (ws' := [(h0, .inr (1, [.int (nI 0), .ref q1, .ref q2, .ref q3, .ref q4, .int (nI 0), .ref q5, .int (nI 0), .ref q6, .int (nI 0), .ref q7, .int (nI 0), .null, .null])), (q1, .inl (ci, 40, .inl (fun j => nI (mz0.cod j)))), (q2, .inl (ci, 40, .inl (fun j => nI (mz0.arg j)))), (q3, .inl (ci, 40, .inl (fun j => nI (mz0.lef j)))), (q4, .inl (ci, 40, .inl (fun j => nI (mz0.rig j)))), (q5, .inl (ci, 40, .inl (fun j => nI (mz0.stk j)))), (q6, .inl (ci, 5, .inl (fun j => nI (mz0.rof j)))), (q7, .inl (ci, 30, .inl (fun j => nI (mz0.txt j))))]) C hin in_X1 tyX1_ok nmX1 0 rfl rfl 10 (by decide) q213 rfl rfl rfl (ty := tyX1 10) (by decide +kernel) rfl rfl (Nat.le_of_ble_eq_true rfl) rfl dX1_init_56 ?_
  refine n_aload (pc := 59) C dX1_init_59 ?_
  refine n_bipush (pc := 60) C dX1_init_60 cb_30 ?_
  refine n_newa (pc := 62) (atype := .int) (a0 := (30, .inl (fun j => nI (mz0.row j)))) C q103 (ty := .int) rfl (fun _ _ => rfl) 0 (cA := ci) rfl (fun _ => rfl) (by decide) (Nat.le_of_ble_eq_true rfl) (Nat.le_of_ble_eq_true rfl) (Nat.le_of_ble_eq_true rfl) dX1_init_62 (fun q8 => ?_)
  refine n_ws (ws' := [(h0, .inr (1, [.int (nI 0), .ref q1, .ref q2, .ref q3, .ref q4, .int (nI 0), .ref q5, .int (nI 0), .ref q6, .int (nI 0), .ref q7, .int (nI 0), .null, .null])), (q1, .inl (ci, 40, .inl (fun j => nI (mz0.cod j)))), (q2, .inl (ci, 40, .inl (fun j => nI (mz0.arg j)))), (q3, .inl (ci, 40, .inl (fun j => nI (mz0.lef j)))), (q4, .inl (ci, 40, .inl (fun j => nI (mz0.rig j)))), (q5, .inl (ci, 40, .inl (fun j => nI (mz0.stk j)))), (q6, .inl (ci, 5, .inl (fun j => nI (mz0.rof j)))), (q7, .inl (ci, 30, .inl (fun j => nI (mz0.txt j)))), (q8, .inl (ci, 30, .inl (fun j => nI (mz0.row j))))]) rfl ?_
  refine n_putF (pc := 64) (ws' := [(h0, .inr (1, [.int (nI 0), .ref q1, .ref q2, .ref q3, .ref q4, .int (nI 0), .ref q5, .int (nI 0), .ref q6, .int (nI 0), .ref q7, .int (nI 0), .ref q8, .null])), (q1, .inl (ci, 40, .inl (fun j => nI (mz0.cod j)))), (q2, .inl (ci, 40, .inl (fun j => nI (mz0.arg j)))), (q3, .inl (ci, 40, .inl (fun j => nI (mz0.lef j)))), (q4, .inl (ci, 40, .inl (fun j => nI (mz0.rig j)))), (q5, .inl (ci, 40, .inl (fun j => nI (mz0.stk j)))), (q6, .inl (ci, 5, .inl (fun j => nI (mz0.rof j)))), (q7, .inl (ci, 30, .inl (fun j => nI (mz0.txt j)))), (q8, .inl (ci, 30, .inl (fun j => nI (mz0.row j))))]) C hin in_X1 tyX1_ok nmX1 0 rfl rfl 12 (by decide) q215 rfl rfl rfl (ty := tyX1 12) (by decide +kernel) rfl rfl (Nat.le_of_ble_eq_true rfl) rfl dX1_init_64 ?_
  refine n_aload (pc := 67) C dX1_init_67 ?_
  refine n_ldc (pc := 68) (v' := nI 38440) C q202 dX1_init_68 (by decide) ?_
  refine n_newa (pc := 70) (atype := .boolean) (a0 := (38440, .inl (fun j => bI (mz0.fit j)))) C q102 (ty := .boolean) rfl (fun _ _ => rfl) 2 (cA := cz) rfl (fun _ => rfl) (by decide) (Nat.le_of_ble_eq_true rfl) (Nat.le_of_ble_eq_true rfl) (Nat.le_of_ble_eq_true rfl) dX1_init_70 (fun q9 => ?_)
  refine n_ws (ws' := [(h0, .inr (1, [.int (nI 0), .ref q1, .ref q2, .ref q3, .ref q4, .int (nI 0), .ref q5, .int (nI 0), .ref q6, .int (nI 0), .ref q7, .int (nI 0), .ref q8, .null])), (q1, .inl (ci, 40, .inl (fun j => nI (mz0.cod j)))), (q2, .inl (ci, 40, .inl (fun j => nI (mz0.arg j)))), (q3, .inl (ci, 40, .inl (fun j => nI (mz0.lef j)))), (q4, .inl (ci, 40, .inl (fun j => nI (mz0.rig j)))), (q5, .inl (ci, 40, .inl (fun j => nI (mz0.stk j)))), (q6, .inl (ci, 5, .inl (fun j => nI (mz0.rof j)))), (q7, .inl (ci, 30, .inl (fun j => nI (mz0.txt j)))), (q8, .inl (ci, 30, .inl (fun j => nI (mz0.row j)))), (q9, .inl (cz, 38440, .inl (fun j => bI (mz0.fit j))))]) rfl ?_
  refine n_putF (pc := 72) (ws' := [(h0, .inr (1, [.int (nI 0), .ref q1, .ref q2, .ref q3, .ref q4, .int (nI 0), .ref q5, .int (nI 0), .ref q6, .int (nI 0), .ref q7, .int (nI 0), .ref q8, .ref q9])), (q1, .inl (ci, 40, .inl (fun j => nI (mz0.cod j)))), (q2, .inl (ci, 40, .inl (fun j => nI (mz0.arg j)))), (q3, .inl (ci, 40, .inl (fun j => nI (mz0.lef j)))), (q4, .inl (ci, 40, .inl (fun j => nI (mz0.rig j)))), (q5, .inl (ci, 40, .inl (fun j => nI (mz0.stk j)))), (q6, .inl (ci, 5, .inl (fun j => nI (mz0.rof j)))), (q7, .inl (ci, 30, .inl (fun j => nI (mz0.txt j)))), (q8, .inl (ci, 30, .inl (fun j => nI (mz0.row j)))), (q9, .inl (cz, 38440, .inl (fun j => bI (mz0.fit j))))]) C hin in_X1 tyX1_ok nmX1 0 rfl rfl 13 (by decide) q216 rfl rfl rfl (ty := tyX1 13) (by decide +kernel) rfl rfl (Nat.le_of_ble_eq_true rfl) rfl dX1_init_72 ?_
  exact n_vret (pc := 75) C hr hQ (fun k => [h0, q1, q2, q3, q4, q5, q6, q7, q8, q9].getD k 0) rfl rfl dX1_init_75
end NX1
end
section
set_option maxRecDepth 100000
section LR
theorem wl {D : va_G} {cl : List vw_C} {wa wb : va_W} {H : Heap} (h : va_P D cl (wa ++ wb) H) : va_P D cl wa H := fun k q hk => h k q (by
  rw [List.getElem?_append_left (List.getElem?_eq_some_iff.mp hk).1]; exact hk)
theorem wr {D : va_G} {cl : List vw_C} {wa wb : va_W} {H : Heap} (h : va_P D cl (wa ++ wb) H) : va_P D cl wb H := fun k q hk => h (wa.length + k) q (by
  rw [List.getElem?_append_right (by omega), show wa.length + k - wa.length = k by omega]; exact hk)
theorem dl {A : Nat → Prop} {wa wb : va_W} (h : va_D A (wa ++ wb)) : va_D A wa := by
  have e : ∀ (k : Nat) (q : Nat × va_E), wa[k]? = some q → (wa ++ wb)[k]? = some q := fun k q hk => by
    rw [List.getElem?_append_left (List.getElem?_eq_some_iff.mp hk).1]; exact hk
  exact ⟨fun i j p q hi hj hpq => h.1 i j p q (e i p hi) (e j q hj) hpq, fun k q hk => h.2 k q (e k q hk)⟩
theorem dr {A : Nat → Prop} {wa wb : va_W} (h : va_D A (wa ++ wb)) : va_D A wb := by
  have e : ∀ (k : Nat) (q : Nat × va_E), wb[k]? = some q → (wa ++ wb)[wa.length + k]? = some q := fun k q hk => by
    rw [List.getElem?_append_right (by omega), show wa.length + k - wa.length = k by omega]; exact hk
  refine ⟨fun i j p q hi hj hpq => ?_, fun k q hk => h.2 _ q (e k q hk)⟩
  have := h.1 _ _ p q (e i p hi) (e j q hj) hpq
  omega
theorem dx {A : Nat → Prop} {wa wb : va_W} (h : va_D A (wa ++ wb)) : ∀ (i j : Nat) (p q : Nat × va_E), wa[i]? = some p → wb[j]? = some q → p.1 ≠ q.1 := by
  intro i j p q hi hj hpq
  have hl := (List.getElem?_eq_some_iff.mp hi).1
  have := h.1 i (wa.length + j) p q (by rw [List.getElem?_append_left hl]; exact hi) (by rw [List.getElem?_append_right (by omega), show wa.length + j - wa.length = j by omega]; exact hj) hpq
  omega
/-- the world beside the callee's stays -/
theorem z_kept {D : va_G} {cl : List vw_C} {wa wb : va_W} {H H1 : Heap} {ad : Nat → Nat} {n : Nat} (hP : va_P D cl wb H) (hx : ∀ (i j : Nat) (p q : Nat × va_E), wa[i]? = some p → wb[j]? = some q → p.1 ≠ q.1) (hh : ∀ j, j < n → ∃ e, wa[j]? = some (ad j, e)) (hk : ∀ q : Nat, q < H.size → ¬ vA ad n H.size q → H1[q]? = H[q]?) : va_P D cl wb H1 ∧ ∀ (j : Nat) (q : Nat × va_E), wb[j]? = some q → ¬ vA ad n H.size q.1 := by
  have no : ∀ (j : Nat) (q : Nat × va_E), wb[j]? = some q → ¬ vA ad n H.size q.1 := by
    intro j q hq h
    rcases h with ⟨i, hi, e⟩ | h
    · obtain ⟨E, hE⟩ := hh i hi
      exact hx i j _ q hE hq e.symm
    · have := (hP j q hq).lt
      omega
  exact ⟨fun k q hq => (hP k q hq).kept (hk q.1 (hP k q hq).lt (no k q hq)), no⟩
theorem z_own {A : Nat → Prop} {wa : va_W} {H0 H : Heap} {locs : List Loc} {ad : Nat → Nat} {n : Nat} (hD : va_D A wa) (hS : va_S A H0 H locs) (hA : ∀ q, H0.size ≤ q → A q) (hh : ∀ j, j < n → ∃ e, wa[j]? = some (ad j, e)) : ∀ q, vA ad n H.size q → A q := by
  intro q h
  rcases h with ⟨j, hj, rfl⟩ | h
  · obtain ⟨e, he⟩ := hh j hj
    exact hD.2 j _ he
  · exact hA q (Nat.le_trans hS.1 h)
variable {X : VX} {cc : ByteArray} {own : String} {nL : Nat} {tys : List (ClassId × FieldType)} {R0 : Room} {ad0 : Nat → Nat} {nA0 : Nat} {ws ws' wa wb : va_W} {pc : Nat} {lv lv' : List (Nat × Value)} {st : List Value}
theorem z_xi (C : vC X cc own nL tys R0 ad0 nA0) {S : Type} {post : Int32 → S → Prop} {wf : S → va_W} {ad : Nat → Nat} {nB : Nat} {y : MethodName} {b : ByteArray} {L : Nat} {ret : Option FieldType} {dd idx : Nat} {a : Nat} (As : List Value) (na : Nat) {rest : List Value} {Cn : String} (hM : vMi X.l X.D tys y b L ret dd (.ref a :: As) wa ad nB post wf) (hh : ∀ j, j < nB → ∃ e, wa[j]? = some (ad j, e)) (hG : GoodIn lw_all (wsV own idx Cn y (ws_ y b L ret))) (hd : y.cls = Cn ∧ y.cls ≠ "java/lang/invoke/MethodHandle" ∧ y.cls ≠ "java/lang/invoke/VarHandle" ∧ (parseMethodDescriptor y.desc).map (fun d => d.parameters.length) = some na) (hR : dd + 1 ≤ R0.frames ∧ 8 + (L + 11) + 32 * dd ≤ R0.locals) {ci q0 : Nat} {fs : List Value} {T : u_T} {N : Nat} (hc : vwCl[ci]? = some (Cn, T, N)) (he : wa[q0]? = some (a, .inr (ci, fs))) (hna : As.length = na) (hst : st = As.reverse ++ .ref a :: rest) (hrm : (rest.map fun v => v.category).sum ≤ 8) (d : decode cc pc = .ok (.invokevirtual idx, 3))
    (K : ∀ r u, post r u → vV X (wf u ++ wb) (pc + 3) lv (.int r :: rest)) : vV X (wa ++ wb) pc lv st := by
  subst hst
  intro H locs hP hD hS ls hl
  have hPa := wl hP
  have hPb := wr hP
  have hDa := dl hD
  have hDb := dr hD
  have hX := dx hD
  have hAA := z_own (ad := ad) (n := nB) hDa hS (fun q h => C.hA q _ (Nat.le_refl _) (Or.inr h)) hh
  refine va_calli (va_runV (As := As) (rest := rest) ⟨C.hx, C.hb, C.hm, C.ho, C.ht⟩ (hM H.size) (cwV na C.ht hG rfl rfl rfl hd (by rw [C.hR]; exact hR)) ⟨vPre_blind, va_recv C.hK hPa hc he, fun U hU hW => ⟨rfl, by rw [hU], by rw [hU]; exact hPa, va_K.moved hW.alike C.hK, hDa.weaken (fun _ _ _ _ => trivial)⟩⟩ rfl hna hl.1 rfl (lv_room hrm) d C.hkn) hS (fun q _ h => hAA q h) hAA (fun r u t H1 locs1 ht hvm hp hB hz hk hS1 => ?_)
  obtain ⟨hP1, hD1⟩ := hB
  rw [ht] at hP1
  obtain ⟨hPb1, no⟩ := z_kept (ad := ad) (n := nB) hPb hX hh hk
  exact K r u hp H1 locs1 (hP1.app hPb1) (va_D.app (hD1.weaken (fun k q _ h => hAA q.1 h)) hDb (fun i j p q h1 h2 e => no j q h2 (by rw [← e]; exact hD1.2 i p h1))) hS1 ls hl
theorem z_mi (C : vC X cc own nL tys R0 ad0 nA0) {S : Type} {post : Int32 → S → Prop} {wf : S → va_W} {ad : Nat → Nat} {nB : Nat} {y : MethodName} {b : ByteArray} {L : Nat} {ret : Option FieldType} {dd idx : Nat} {a : Nat} (As : List Value) (na : Nat) {rest : List Value} {Cn : String} (hM : vMi X.l X.D tys y b L ret dd (.ref a :: As) wa ad nB post wf) (hh : ∀ j, j < nB → ∃ e, wa[j]? = some (ad j, e)) (hG : GoodIn lw_all (wsV own idx Cn y (ws_ y b L ret))) (hd : y.cls = Cn ∧ y.cls ≠ "java/lang/invoke/MethodHandle" ∧ y.cls ≠ "java/lang/invoke/VarHandle" ∧ (parseMethodDescriptor y.desc).map (fun d => d.parameters.length) = some na) (hR : dd + 1 ≤ R0.frames ∧ 8 + (L + 11) + 32 * dd ≤ R0.locals) {ci q0 : Nat} {fs : List Value} {T : u_T} {N : Nat} (hc : vwCl[ci]? = some (Cn, T, N)) (he : wa[q0]? = some (a, .inr (ci, fs))) (hna : As.length = na) (hst : st = As.reverse ++ .ref a :: rest) (hrm : (rest.map fun v => v.category).sum ≤ 8) (d : decode cc pc = .ok (.invokevirtual idx, 3))
    (K : ∀ r u, post r u → vV X (wb ++ wf u) (pc + 3) lv (.int r :: rest)) : vV X (wb ++ wa) pc lv st := by
  subst hst
  intro H locs hP hD hS ls hl
  have hPa := wr hP
  have hPb := wl hP
  have hDa := dr hD
  have hDb := dl hD
  have hX : ∀ (i j : Nat) (p q : Nat × va_E), wa[i]? = some p → wb[j]? = some q → p.1 ≠ q.1 := fun i j p q h1 h2 e => dx hD j i q p h2 h1 e.symm
  have hAA := z_own (ad := ad) (n := nB) hDa hS (fun q h => C.hA q _ (Nat.le_refl _) (Or.inr h)) hh
  refine va_calli (va_runV (As := As) (rest := rest) ⟨C.hx, C.hb, C.hm, C.ho, C.ht⟩ (hM H.size) (cwV na C.ht hG rfl rfl rfl hd (by rw [C.hR]; exact hR)) ⟨vPre_blind, va_recv C.hK hPa hc he, fun U hU hW => ⟨rfl, by rw [hU], by rw [hU]; exact hPa, va_K.moved hW.alike C.hK, hDa.weaken (fun _ _ _ _ => trivial)⟩⟩ rfl hna hl.1 rfl (lv_room hrm) d C.hkn) hS (fun q _ h => hAA q h) hAA (fun r u t H1 locs1 ht hvm hp hB hz hk hS1 => ?_)
  obtain ⟨hP1, hD1⟩ := hB
  rw [ht] at hP1
  obtain ⟨hPb1, no⟩ := z_kept (ad := ad) (n := nB) hPb hX hh hk
  exact K r u hp H1 locs1 (hPb1.app hP1) (va_D.app hDb (hD1.weaken (fun k q _ h => hAA q.1 h)) (fun i j p q h1 h2 e => no i p h1 (by rw [e]; exact hD1.2 j q h2))) hS1 ls hl
theorem z_xv (C : vC X cc own nL tys R0 ad0 nA0) {S : Type} {post : S → Prop} {wf : S → va_W} {ad : Nat → Nat} {nB : Nat} {y : MethodName} {b : ByteArray} {L : Nat} {dd idx : Nat} {a : Nat} (As : List Value) (na : Nat) {rest : List Value} {Cn : String} (hM : vMv X.l X.D tys y b L dd (.ref a :: As) wa ad nB post wf) (hh : ∀ j, j < nB → ∃ e, wa[j]? = some (ad j, e)) (hG : GoodIn lw_all (wsV own idx Cn y (ws_ y b L none))) (hd : y.cls = Cn ∧ y.cls ≠ "java/lang/invoke/MethodHandle" ∧ y.cls ≠ "java/lang/invoke/VarHandle" ∧ (parseMethodDescriptor y.desc).map (fun d => d.parameters.length) = some na) (hR : dd + 1 ≤ R0.frames ∧ 8 + (L + 11) + 32 * dd ≤ R0.locals) {ci q0 : Nat} {fs : List Value} {T : u_T} {N : Nat} (hc : vwCl[ci]? = some (Cn, T, N)) (he : wa[q0]? = some (a, .inr (ci, fs))) (hna : As.length = na) (hst : st = As.reverse ++ .ref a :: rest) (hrm : (rest.map fun v => v.category).sum ≤ 8) (d : decode cc pc = .ok (.invokevirtual idx, 3))
    (K : ∀ u, post u → vV X (wf u ++ wb) (pc + 3) lv (rest)) : vV X (wa ++ wb) pc lv st := by
  subst hst
  intro H locs hP hD hS ls hl
  have hPa := wl hP
  have hPb := wr hP
  have hDa := dl hD
  have hDb := dr hD
  have hX := dx hD
  have hAA := z_own (ad := ad) (n := nB) hDa hS (fun q h => C.hA q _ (Nat.le_refl _) (Or.inr h)) hh
  refine va_callv (va_runV (As := As) (rest := rest) ⟨C.hx, C.hb, C.hm, C.ho, C.ht⟩ (hM H.size) (cwV na C.ht hG rfl rfl rfl hd (by rw [C.hR]; exact hR)) ⟨vPre_blind, va_recv C.hK hPa hc he, fun U hU hW => ⟨rfl, by rw [hU], by rw [hU]; exact hPa, va_K.moved hW.alike C.hK, hDa.weaken (fun _ _ _ _ => trivial)⟩⟩ rfl hna hl.1 rfl (lv_room hrm) d C.hkn) hS (fun q _ h => hAA q h) hAA (fun u t H1 locs1 ht hvm hp hB hz hk hS1 => ?_)
  obtain ⟨hP1, hD1⟩ := hB
  rw [ht] at hP1
  obtain ⟨hPb1, no⟩ := z_kept (ad := ad) (n := nB) hPb hX hh hk
  exact K u hp H1 locs1 (hP1.app hPb1) (va_D.app (hD1.weaken (fun k q _ h => hAA q.1 h)) hDb (fun i j p q h1 h2 e => no j q h2 (by rw [← e]; exact hD1.2 i p h1))) hS1 ls hl
theorem z_mv (C : vC X cc own nL tys R0 ad0 nA0) {S : Type} {post : S → Prop} {wf : S → va_W} {ad : Nat → Nat} {nB : Nat} {y : MethodName} {b : ByteArray} {L : Nat} {dd idx : Nat} {a : Nat} (As : List Value) (na : Nat) {rest : List Value} {Cn : String} (hM : vMv X.l X.D tys y b L dd (.ref a :: As) wa ad nB post wf) (hh : ∀ j, j < nB → ∃ e, wa[j]? = some (ad j, e)) (hG : GoodIn lw_all (wsV own idx Cn y (ws_ y b L none))) (hd : y.cls = Cn ∧ y.cls ≠ "java/lang/invoke/MethodHandle" ∧ y.cls ≠ "java/lang/invoke/VarHandle" ∧ (parseMethodDescriptor y.desc).map (fun d => d.parameters.length) = some na) (hR : dd + 1 ≤ R0.frames ∧ 8 + (L + 11) + 32 * dd ≤ R0.locals) {ci q0 : Nat} {fs : List Value} {T : u_T} {N : Nat} (hc : vwCl[ci]? = some (Cn, T, N)) (he : wa[q0]? = some (a, .inr (ci, fs))) (hna : As.length = na) (hst : st = As.reverse ++ .ref a :: rest) (hrm : (rest.map fun v => v.category).sum ≤ 8) (d : decode cc pc = .ok (.invokevirtual idx, 3))
    (K : ∀ u, post u → vV X (wb ++ wf u) (pc + 3) lv (rest)) : vV X (wb ++ wa) pc lv st := by
  subst hst
  intro H locs hP hD hS ls hl
  have hPa := wr hP
  have hPb := wl hP
  have hDa := dr hD
  have hDb := dl hD
  have hX : ∀ (i j : Nat) (p q : Nat × va_E), wa[i]? = some p → wb[j]? = some q → p.1 ≠ q.1 := fun i j p q h1 h2 e => dx hD j i q p h2 h1 e.symm
  have hAA := z_own (ad := ad) (n := nB) hDa hS (fun q h => C.hA q _ (Nat.le_refl _) (Or.inr h)) hh
  refine va_callv (va_runV (As := As) (rest := rest) ⟨C.hx, C.hb, C.hm, C.ho, C.ht⟩ (hM H.size) (cwV na C.ht hG rfl rfl rfl hd (by rw [C.hR]; exact hR)) ⟨vPre_blind, va_recv C.hK hPa hc he, fun U hU hW => ⟨rfl, by rw [hU], by rw [hU]; exact hPa, va_K.moved hW.alike C.hK, hDa.weaken (fun _ _ _ _ => trivial)⟩⟩ rfl hna hl.1 rfl (lv_room hrm) d C.hkn) hS (fun q _ h => hAA q h) hAA (fun u t H1 locs1 ht hvm hp hB hz hk hS1 => ?_)
  obtain ⟨hP1, hD1⟩ := hB
  rw [ht] at hP1
  obtain ⟨hPb1, no⟩ := z_kept (ad := ad) (n := nB) hPb hX hh hk
  exact K u hp H1 locs1 (hPb1.app hP1) (va_D.app hDb (hD1.weaken (fun k q _ h => hAA q.1 h)) (fun i j p q h1 h2 e => no i p h1 (by rw [e]; exact hD1.2 j q h2))) hS1 ls hl
theorem z_sld (C : vC X cc own nL tys R0 ad0 nA0) {b L : Nat} {xs : Nat → Int32} (hX : va_X b L xs X.s X.s.heap) (hbl : b < X.s.heap.size) (hbA : ¬ X.A b) (hL : L < 2 ^ 31) {j : Nat} (hj : j < L) (d : decode cc pc = .ok (.iaload, 1)) (K : vV X ws (pc + 1) lv (.int (xs j) :: st)) : vV X ws pc lv (.int (nI j) :: .ref b :: st) := fun H locs hP hD hS ls hl => va_sld C.hx C.hb hX hbl hbA hS (vp_in_nI hj hL) d (by rw [nI_clamp (Nat.lt_trans hj hL)]; exact K H locs hP hD hS ls hl)
theorem z_slen (C : vC X cc own nL tys R0 ad0 nA0) {b L : Nat} {xs : Nat → Int32} (hX : va_X b L xs X.s X.s.heap) (hbl : b < X.s.heap.size) (hbA : ¬ X.A b) (d : decode cc pc = .ok (.arraylength, 1)) (K : vV X ws (pc + 1) lv (.int (nI L) :: st)) : vV X ws pc lv (.ref b :: st) := fun H locs hP hD hS ls hl => va_slen C.hx C.hb hX hbl hbA hS d (K H locs hP hD hS ls hl)
theorem z_tabIn (C : vC X cc own nL tys R0 ad0 nA0) {dflt lo hi : Int} {offs : Array Int} {len : Nat} {x : Int32} {off : Int} {tgt : Nat} (d : decode cc pc = .ok (.tableswitch dflt lo hi offs, len)) (h1 : ¬ x.toInt < lo) (h2 : ¬ hi < x.toInt) (ho : offs[(x.toInt - lo).toNat]? = some off) (ht : (pc : Int) + off = (tgt : Int)) (K : vV X ws tgt lv st) : vV X ws pc lv (.int x :: st) := fun H locs hP hD hS ls hl => lv_tableIn C.hx C.hb d h1 h2 ho ht (K H locs hP hD hS ls hl)
theorem z_tabOut (C : vC X cc own nL tys R0 ad0 nA0) {dflt lo hi : Int} {offs : Array Int} {len : Nat} {x : Int32} {tgt : Nat} (d : decode cc pc = .ok (.tableswitch dflt lo hi offs, len)) (h : x.toInt < lo ∨ hi < x.toInt) (ht : (pc : Int) + dflt = (tgt : Int)) (K : vV X ws tgt lv st) : vV X ws pc lv (.int x :: st) := fun H locs hP hD hS ls hl => lv_tableOut C.hx C.hb d h ht (K H locs hP hD hS ls hl)
/-- a loop that goes up by three -/
theorem lp_3 {P : Nat → Prop} {L : Nat} (h : ∀ i, i ≤ L → (i + 3 ≤ L → P (i + 3)) → P i) : ∀ i, i ≤ L → P i := by
  intro i hi
  obtain ⟨n, hn⟩ : ∃ n, L - i ≤ n := ⟨_, Nat.le_refl _⟩
  induction n generalizing i with
  | zero => exact h i hi (fun h' => absurd h' (by omega))
  | succ n ih => exact h i hi (fun h' => ih (i + 3) h' (by omega))
/-- the loop's test -/
theorem lp_tst {L i : Nat} (hL : L ≤ 192) (hi : i ≤ 192) : nI L - nI 3 < nI i ↔ L < i + 3 := by
  rw [Int32.lt_iff_toInt_lt, pk_sub_toInt (by omega) (by omega), nI_toInt (by omega)]
  omega
def a15 (x : Int32) : Nat := x.toBitVec.toNat % 16
theorem a15_and (x : Int32) : x &&& nI 15 = nI (a15 x) := pk_and x 4 (by decide)
theorem a15_lt (x : Int32) : a15 x < 16 := Nat.mod_lt _ (by decide)
end LR
end
section
set_option maxRecDepth 100000
section LL
variable {X : VX} {ci cj cz : ClassId} {ad bd : Nat → Nat}
abbrev zW (ad bd : Nat → Nat) (ci cj cz : ClassId) (σ : XS) (τ : MS) : va_W := xW ad ci cj cz σ ++ mW bd ci cj cz τ
abbrev zL (b : Nat) (ad bd : Nat → Nat) (i : Nat) : List (Nat × Value) := [(0, .ref b), (1, .ref (ad 0)), (2, .ref (bd 0)), (3, .int (nI i))]
set_option maxHeartbeats 4000000 in
theorem law_token (C : vC X cL_law "LexTablesLaw" 4 (vTy ci cj cz) room_1 ad 0) {b L : Nat} {xs : Nat → Int32} (hX : va_X b L xs X.s X.s.heap) (hbl : b < X.s.heap.size) (hbA : ¬ X.A b) (hL : L ≤ 192) {i : Nat} (hi : i + 3 ≤ L) (next : ∀ Lt ow σ τ, Inv Lt ow σ τ → vV X (zW ad bd ci cj cz σ τ) 314 (zL b ad bd i) []) {Lt : LT} {ow : Nat → Nat} {σ : XS} {τ : MS} (I : Inv Lt ow σ τ) : vV X (zW ad bd ci cj cz σ τ) 88 (zL b ad bd i) [] := by
  obtain ⟨tI, tG, p40, r5, tx, t30, sk, pk, tk⟩ := Inv_prx I
  obtain ⟨m30, m40, mO, mx, m5, mr, mh⟩ := Inv_pre I
  refine v_aload_n (pc := 88) C dL_law_88 rfl 1 rfl ?_
  refine v_aload_n (pc := 89) C dL_law_89 rfl 0 rfl ?_
  refine v_iload_n (pc := 90) C dL_law_90 rfl 3 rfl ?_
  refine v_iconst (pc := 91) C dL_law_91 ci_1 ?_
  refine v_iaddN (pc := 92) C dL_law_92 ?_
  refine z_sld (pc := 93) C hX hbl hbA (by omega) (j := i + 1) (by omega) dL_law_93 ?_
  refine v_aload_n (pc := 94) C dL_law_94 rfl 0 rfl ?_
  refine v_iload_n (pc := 95) C dL_law_95 rfl 3 rfl ?_
  refine v_iconst (pc := 96) C dL_law_96 ci_2 ?_
  refine v_iaddN (pc := 97) C dL_law_97 ?_
  refine z_sld (pc := 98) C hX hbl hbA (by omega) (j := i + 2) (by omega) dL_law_98 ?_
  refine z_xi (pc := 99) C [.int (xs (i + 1)), .int (xs (i + 2))] 2 (met_x_token σ (xs (i + 1)) (xs (i + 2)) sk pk tk r5) xW_has (lw_V q104 q105 q106 q23 q107) (by decide +kernel) (by decide) (ci := 0) (q0 := 0) rfl rfl rfl rfl (Nat.le_of_ble_eq_true rfl) dL_law_99 (fun r1 u h1 => ?_)
  refine v_aload_n (pc := 102) C dL_law_102 rfl 2 rfl ?_
  refine v_aload_n (pc := 103) C dL_law_103 rfl 0 rfl ?_
  refine v_iload_n (pc := 104) C dL_law_104 rfl 3 rfl ?_
  refine v_iconst (pc := 105) C dL_law_105 ci_1 ?_
  refine v_iaddN (pc := 106) C dL_law_106 ?_
  refine z_sld (pc := 107) C hX hbl hbA (by omega) (j := i + 1) (by omega) dL_law_107 ?_
  refine v_aload_n (pc := 108) C dL_law_108 rfl 0 rfl ?_
  refine v_iload_n (pc := 109) C dL_law_109 rfl 3 rfl ?_
  refine v_iconst (pc := 110) C dL_law_110 ci_2 ?_
  refine v_iaddN (pc := 111) C dL_law_111 ?_
  refine z_sld (pc := 112) C hX hbl hbA (by omega) (j := i + 2) (by omega) dL_law_112 ?_
  refine z_mi (pc := 113) C [.int (xs (i + 1)), .int (xs (i + 2))] 2 (met_m_token τ (xs (i + 1)) (xs (i + 2)) mh m40 m5) mW_has (lw_V q246 q247 q248 q24 q249) (by decide +kernel) (by decide) (ci := 1) (q0 := 0) rfl rfl rfl rfl (Nat.le_of_ble_eq_true rfl) dL_law_113 (fun r2 w h2 => ?_)
  have g := go_token I h1 h2
  refine v_icmp_eq (pc := 116) (tgt := 314) C dL_law_116 (by decide) (fun _ => ?_) (fun z => absurd g.1 z)
  obtain ⟨_, Lt2, ow2, I2⟩ := g
  exact next Lt2 ow2 u w I2
set_option maxHeartbeats 4000000 in
theorem law_clear (C : vC X cL_law "LexTablesLaw" 4 (vTy ci cj cz) room_1 ad 0) {b L : Nat} {xs : Nat → Int32} (hX : va_X b L xs X.s X.s.heap) (hbl : b < X.s.heap.size) (hbA : ¬ X.A b) (hL : L ≤ 192) {i : Nat} (hi : i + 3 ≤ L) (next : ∀ Lt ow σ τ, Inv Lt ow σ τ → vV X (zW ad bd ci cj cz σ τ) 314 (zL b ad bd i) []) {Lt : LT} {ow : Nat → Nat} {σ : XS} {τ : MS} (I : Inv Lt ow σ τ) : vV X (zW ad bd ci cj cz σ τ) 121 (zL b ad bd i) [] := by
  obtain ⟨tI, tG, p40, r5, tx, t30, sk, pk, tk⟩ := Inv_prx I
  obtain ⟨m30, m40, mO, mx, m5, mr, mh⟩ := Inv_pre I
  refine v_aload_n (pc := 121) C dL_law_121 rfl 1 rfl ?_
  refine z_xv (pc := 122) C [] 0 (met_x_clear σ) xW_has (lw_V q128 q129 q130 q23 q131) (by decide +kernel) (by decide) (ci := 0) (q0 := 0) rfl rfl rfl rfl (Nat.le_of_ble_eq_true rfl) dL_law_122 (fun u h1 => ?_)
  refine v_aload_n (pc := 125) C dL_law_125 rfl 2 rfl ?_
  refine z_mv (pc := 126) C [] 0 (met_m_clear τ) mW_has (lw_V q253 q254 q255 q24 q256) (by decide +kernel) (by decide) (ci := 1) (q0 := 0) rfl rfl rfl rfl (Nat.le_of_ble_eq_true rfl) dL_law_126 (fun w h2 => ?_)
  refine v_goto (tgt := 314) (pc := 129) C dL_law_129 (by decide) ?_
  exact next Lt ow u w (go_clear I h1 h2)
set_option maxHeartbeats 4000000 in
theorem law_type (C : vC X cL_law "LexTablesLaw" 4 (vTy ci cj cz) room_1 ad 0) {b L : Nat} {xs : Nat → Int32} (hX : va_X b L xs X.s X.s.heap) (hbl : b < X.s.heap.size) (hbA : ¬ X.A b) (hL : L ≤ 192) {i : Nat} (hi : i + 3 ≤ L) (next : ∀ Lt ow σ τ, Inv Lt ow σ τ → vV X (zW ad bd ci cj cz σ τ) 314 (zL b ad bd i) []) {Lt : LT} {ow : Nat → Nat} {σ : XS} {τ : MS} (I : Inv Lt ow σ τ) : vV X (zW ad bd ci cj cz σ τ) 132 (zL b ad bd i) [] := by
  obtain ⟨tI, tG, p40, r5, tx, t30, sk, pk, tk⟩ := Inv_prx I
  obtain ⟨m30, m40, mO, mx, m5, mr, mh⟩ := Inv_pre I
  refine v_aload_n (pc := 132) C dL_law_132 rfl 1 rfl ?_
  refine v_aload_n (pc := 133) C dL_law_133 rfl 0 rfl ?_
  refine v_iload_n (pc := 134) C dL_law_134 rfl 3 rfl ?_
  refine v_iconst (pc := 135) C dL_law_135 ci_1 ?_
  refine v_iaddN (pc := 136) C dL_law_136 ?_
  refine z_sld (pc := 137) C hX hbl hbA (by omega) (j := i + 1) (by omega) dL_law_137 ?_
  refine z_xi (pc := 138) C [.int (xs (i + 1))] 1 (met_x_type σ (xs (i + 1)) t30) xW_has (lw_V q132 q133 q134 q23 q135) (by decide +kernel) (by decide) (ci := 0) (q0 := 0) rfl rfl rfl rfl (Nat.le_of_ble_eq_true rfl) dL_law_138 (fun r1 u h1 => ?_)
  refine v_aload_n (pc := 141) C dL_law_141 rfl 2 rfl ?_
  refine v_aload_n (pc := 142) C dL_law_142 rfl 0 rfl ?_
  refine v_iload_n (pc := 143) C dL_law_143 rfl 3 rfl ?_
  refine v_iconst (pc := 144) C dL_law_144 ci_1 ?_
  refine v_iaddN (pc := 145) C dL_law_145 ?_
  refine z_sld (pc := 146) C hX hbl hbA (by omega) (j := i + 1) (by omega) dL_law_146 ?_
  refine z_mi (pc := 147) C [.int (xs (i + 1))] 1 (met_m_type τ (xs (i + 1)) m30) mW_has (lw_V q257 q258 q259 q24 q260) (by decide +kernel) (by decide) (ci := 1) (q0 := 0) rfl rfl rfl rfl (Nat.le_of_ble_eq_true rfl) dL_law_147 (fun r2 w h2 => ?_)
  have g := go_type I h1 h2
  refine v_icmp_eq (pc := 150) (tgt := 314) C dL_law_150 (by decide) (fun _ => ?_) (fun z => absurd g.1 z)
  exact next Lt ow u w g.2
set_option maxHeartbeats 4000000 in
theorem law_erase (C : vC X cL_law "LexTablesLaw" 4 (vTy ci cj cz) room_1 ad 0) {b L : Nat} {xs : Nat → Int32} (hX : va_X b L xs X.s X.s.heap) (hbl : b < X.s.heap.size) (hbA : ¬ X.A b) (hL : L ≤ 192) {i : Nat} (hi : i + 3 ≤ L) (next : ∀ Lt ow σ τ, Inv Lt ow σ τ → vV X (zW ad bd ci cj cz σ τ) 314 (zL b ad bd i) []) {Lt : LT} {ow : Nat → Nat} {σ : XS} {τ : MS} (I : Inv Lt ow σ τ) : vV X (zW ad bd ci cj cz σ τ) 155 (zL b ad bd i) [] := by
  obtain ⟨tI, tG, p40, r5, tx, t30, sk, pk, tk⟩ := Inv_prx I
  obtain ⟨m30, m40, mO, mx, m5, mr, mh⟩ := Inv_pre I
  refine v_aload_n (pc := 155) C dL_law_155 rfl 1 rfl ?_
  refine z_xv (pc := 156) C [] 0 (met_x_erase σ) xW_has (lw_V q136 q137 q138 q23 q139) (by decide +kernel) (by decide) (ci := 0) (q0 := 0) rfl rfl rfl rfl (Nat.le_of_ble_eq_true rfl) dL_law_156 (fun u h1 => ?_)
  refine v_aload_n (pc := 159) C dL_law_159 rfl 2 rfl ?_
  refine z_mv (pc := 160) C [] 0 (met_m_erase τ) mW_has (lw_V q261 q262 q263 q24 q264) (by decide +kernel) (by decide) (ci := 1) (q0 := 0) rfl rfl rfl rfl (Nat.le_of_ble_eq_true rfl) dL_law_160 (fun w h2 => ?_)
  refine v_goto (tgt := 314) (pc := 163) C dL_law_163 (by decide) ?_
  exact next Lt ow u w (go_erase I h1 h2)
set_option maxHeartbeats 4000000 in
theorem law_words (C : vC X cL_law "LexTablesLaw" 4 (vTy ci cj cz) room_1 ad 0) {b L : Nat} {xs : Nat → Int32} (hX : va_X b L xs X.s X.s.heap) (hbl : b < X.s.heap.size) (hbA : ¬ X.A b) (hL : L ≤ 192) {i : Nat} (hi : i + 3 ≤ L) (next : ∀ Lt ow σ τ, Inv Lt ow σ τ → vV X (zW ad bd ci cj cz σ τ) 314 (zL b ad bd i) []) {Lt : LT} {ow : Nat → Nat} {σ : XS} {τ : MS} (I : Inv Lt ow σ τ) : vV X (zW ad bd ci cj cz σ τ) 166 (zL b ad bd i) [] := by
  obtain ⟨tI, tG, p40, r5, tx, t30, sk, pk, tk⟩ := Inv_prx I
  obtain ⟨m30, m40, mO, mx, m5, mr, mh⟩ := Inv_pre I
  refine v_aload_n (pc := 166) C dL_law_166 rfl 1 rfl ?_
  refine z_xi (pc := 167) C [] 0 (met_x_words σ tI tG p40 r5 tx t30) xW_has (lw_V q140 q141 q142 q23 q143) (by decide +kernel) (by decide) (ci := 0) (q0 := 0) rfl rfl rfl rfl (Nat.le_of_ble_eq_true rfl) dL_law_167 (fun r1 u h1 => ?_)
  refine v_aload_n (pc := 170) C dL_law_170 rfl 2 rfl ?_
  refine z_mi (pc := 171) C [] 0 (met_m_words τ m30 m40 mO mx m5 mr) mW_has (lw_V q265 q266 q267 q24 q268) (by decide +kernel) (by decide) (ci := 1) (q0 := 0) rfl rfl rfl rfl (Nat.le_of_ble_eq_true rfl) dL_law_171 (fun r2 w h2 => ?_)
  have g := go_words I h1 h2
  refine v_icmp_eq (pc := 174) (tgt := 314) C dL_law_174 (by decide) (fun _ => ?_) (fun z => absurd g.1 z)
  exact next Lt ow u w g.2
set_option maxHeartbeats 4000000 in
theorem law_sort (C : vC X cL_law "LexTablesLaw" 4 (vTy ci cj cz) room_1 ad 0) {b L : Nat} {xs : Nat → Int32} (hX : va_X b L xs X.s X.s.heap) (hbl : b < X.s.heap.size) (hbA : ¬ X.A b) (hL : L ≤ 192) {i : Nat} (hi : i + 3 ≤ L) (next : ∀ Lt ow σ τ, Inv Lt ow σ τ → vV X (zW ad bd ci cj cz σ τ) 314 (zL b ad bd i) []) {Lt : LT} {ow : Nat → Nat} {σ : XS} {τ : MS} (I : Inv Lt ow σ τ) : vV X (zW ad bd ci cj cz σ τ) 179 (zL b ad bd i) [] := by
  obtain ⟨tI, tG, p40, r5, tx, t30, sk, pk, tk⟩ := Inv_prx I
  obtain ⟨m30, m40, mO, mx, m5, mr, mh⟩ := Inv_pre I
  refine v_aload_n (pc := 179) C dL_law_179 rfl 1 rfl ?_
  refine v_aload_n (pc := 180) C dL_law_180 rfl 0 rfl ?_
  refine v_iload_n (pc := 181) C dL_law_181 rfl 3 rfl ?_
  refine v_iconst (pc := 182) C dL_law_182 ci_1 ?_
  refine v_iaddN (pc := 183) C dL_law_183 ?_
  refine z_sld (pc := 184) C hX hbl hbA (by omega) (j := i + 1) (by omega) dL_law_184 ?_
  refine z_xi (pc := 185) C [.int (xs (i + 1))] 1 (met_x_sort σ (xs (i + 1)) tI tG p40 r5 tx t30) xW_has (lw_V q176 q177 q178 q23 q179) (by decide +kernel) (by decide) (ci := 0) (q0 := 0) rfl rfl rfl rfl (Nat.le_of_ble_eq_true rfl) dL_law_185 (fun r1 u h1 => ?_)
  refine v_aload_n (pc := 188) C dL_law_188 rfl 2 rfl ?_
  refine v_aload_n (pc := 189) C dL_law_189 rfl 0 rfl ?_
  refine v_iload_n (pc := 190) C dL_law_190 rfl 3 rfl ?_
  refine v_iconst (pc := 191) C dL_law_191 ci_1 ?_
  refine v_iaddN (pc := 192) C dL_law_192 ?_
  refine z_sld (pc := 193) C hX hbl hbA (by omega) (j := i + 1) (by omega) dL_law_193 ?_
  refine z_mi (pc := 194) C [.int (xs (i + 1))] 1 (met_m_sort τ (xs (i + 1)) m30 m40 mO mx m5 mr) mW_has (lw_V q297 q298 q299 q24 q300) (by decide +kernel) (by decide) (ci := 1) (q0 := 0) rfl rfl rfl rfl (Nat.le_of_ble_eq_true rfl) dL_law_194 (fun r2 w h2 => ?_)
  have g := go_sort I h1 h2
  refine v_icmp_eq (pc := 197) (tgt := 314) C dL_law_197 (by decide) (fun _ => ?_) (fun z => absurd g.1 z)
  exact next Lt ow u w g.2
set_option maxHeartbeats 4000000 in
theorem law_length (C : vC X cL_law "LexTablesLaw" 4 (vTy ci cj cz) room_1 ad 0) {b L : Nat} {xs : Nat → Int32} (hX : va_X b L xs X.s X.s.heap) (hbl : b < X.s.heap.size) (hbA : ¬ X.A b) (hL : L ≤ 192) {i : Nat} (hi : i + 3 ≤ L) (next : ∀ Lt ow σ τ, Inv Lt ow σ τ → vV X (zW ad bd ci cj cz σ τ) 314 (zL b ad bd i) []) {Lt : LT} {ow : Nat → Nat} {σ : XS} {τ : MS} (I : Inv Lt ow σ τ) : vV X (zW ad bd ci cj cz σ τ) 202 (zL b ad bd i) [] := by
  obtain ⟨tI, tG, p40, r5, tx, t30, sk, pk, tk⟩ := Inv_prx I
  obtain ⟨m30, m40, mO, mx, m5, mr, mh⟩ := Inv_pre I
  refine v_aload_n (pc := 202) C dL_law_202 rfl 1 rfl ?_
  refine v_aload_n (pc := 203) C dL_law_203 rfl 0 rfl ?_
  refine v_iload_n (pc := 204) C dL_law_204 rfl 3 rfl ?_
  refine v_iconst (pc := 205) C dL_law_205 ci_1 ?_
  refine v_iaddN (pc := 206) C dL_law_206 ?_
  refine z_sld (pc := 207) C hX hbl hbA (by omega) (j := i + 1) (by omega) dL_law_207 ?_
  refine z_xi (pc := 208) C [.int (xs (i + 1))] 1 (met_x_length σ (xs (i + 1)) tI tG p40 r5 tx t30) xW_has (lw_V q180 q181 q182 q23 q183) (by decide +kernel) (by decide) (ci := 0) (q0 := 0) rfl rfl rfl rfl (Nat.le_of_ble_eq_true rfl) dL_law_208 (fun r1 u h1 => ?_)
  refine v_aload_n (pc := 211) C dL_law_211 rfl 2 rfl ?_
  refine v_aload_n (pc := 212) C dL_law_212 rfl 0 rfl ?_
  refine v_iload_n (pc := 213) C dL_law_213 rfl 3 rfl ?_
  refine v_iconst (pc := 214) C dL_law_214 ci_1 ?_
  refine v_iaddN (pc := 215) C dL_law_215 ?_
  refine z_sld (pc := 216) C hX hbl hbA (by omega) (j := i + 1) (by omega) dL_law_216 ?_
  refine z_mi (pc := 217) C [.int (xs (i + 1))] 1 (met_m_length τ (xs (i + 1)) m30 m40 mO mx m5 mr) mW_has (lw_V q305 q306 q307 q24 q308) (by decide +kernel) (by decide) (ci := 1) (q0 := 0) rfl rfl rfl rfl (Nat.le_of_ble_eq_true rfl) dL_law_217 (fun r2 w h2 => ?_)
  have g := go_length I h1 h2
  refine v_icmp_eq (pc := 220) (tgt := 314) C dL_law_220 (by decide) (fun _ => ?_) (fun z => absurd g.1 z)
  exact next Lt ow u w g.2
set_option maxHeartbeats 4000000 in
theorem law_matches (C : vC X cL_law "LexTablesLaw" 4 (vTy ci cj cz) room_1 ad 0) {b L : Nat} {xs : Nat → Int32} (hX : va_X b L xs X.s X.s.heap) (hbl : b < X.s.heap.size) (hbA : ¬ X.A b) (hL : L ≤ 192) {i : Nat} (hi : i + 3 ≤ L) (next : ∀ Lt ow σ τ, Inv Lt ow σ τ → vV X (zW ad bd ci cj cz σ τ) 314 (zL b ad bd i) []) {Lt : LT} {ow : Nat → Nat} {σ : XS} {τ : MS} (I : Inv Lt ow σ τ) : vV X (zW ad bd ci cj cz σ τ) 225 (zL b ad bd i) [] := by
  obtain ⟨tI, tG, p40, r5, tx, t30, sk, pk, tk⟩ := Inv_prx I
  obtain ⟨m30, m40, mO, mx, m5, mr, mh⟩ := Inv_pre I
  refine v_aload_n (pc := 225) C dL_law_225 rfl 1 rfl ?_
  refine v_aload_n (pc := 226) C dL_law_226 rfl 0 rfl ?_
  refine v_iload_n (pc := 227) C dL_law_227 rfl 3 rfl ?_
  refine v_iconst (pc := 228) C dL_law_228 ci_1 ?_
  refine v_iaddN (pc := 229) C dL_law_229 ?_
  refine z_sld (pc := 230) C hX hbl hbA (by omega) (j := i + 1) (by omega) dL_law_230 ?_
  refine z_xi (pc := 231) C [.int (xs (i + 1))] 1 (met_x_matches σ (xs (i + 1)) p40 r5 tx t30) xW_has (lw_V q184 q185 q186 q23 q187) (by decide +kernel) (by decide) (ci := 0) (q0 := 0) rfl rfl rfl rfl (Nat.le_of_ble_eq_true rfl) dL_law_231 (fun r1 u h1 => ?_)
  refine v_aload_n (pc := 234) C dL_law_234 rfl 2 rfl ?_
  refine v_aload_n (pc := 235) C dL_law_235 rfl 0 rfl ?_
  refine v_iload_n (pc := 236) C dL_law_236 rfl 3 rfl ?_
  refine v_iconst (pc := 237) C dL_law_237 ci_1 ?_
  refine v_iaddN (pc := 238) C dL_law_238 ?_
  refine z_sld (pc := 239) C hX hbl hbA (by omega) (j := i + 1) (by omega) dL_law_239 ?_
  refine z_mi (pc := 240) C [.int (xs (i + 1))] 1 (met_m_matches τ (xs (i + 1)) m30 m40 mO mx m5 mr) mW_has (lw_V q309 q310 q311 q24 q312) (by decide +kernel) (by decide) (ci := 1) (q0 := 0) rfl rfl rfl rfl (Nat.le_of_ble_eq_true rfl) dL_law_240 (fun r2 w h2 => ?_)
  have g := go_matches I h1 h2
  refine v_icmp_eq (pc := 243) (tgt := 314) C dL_law_243 (by decide) (fun _ => ?_) (fun z => absurd g.1 z)
  exact next Lt ow u w g.2
set_option maxHeartbeats 4000000 in
theorem law_count (C : vC X cL_law "LexTablesLaw" 4 (vTy ci cj cz) room_1 ad 0) {b L : Nat} {xs : Nat → Int32} (hX : va_X b L xs X.s X.s.heap) (hbl : b < X.s.heap.size) (hbA : ¬ X.A b) (hL : L ≤ 192) {i : Nat} (hi : i + 3 ≤ L) (next : ∀ Lt ow σ τ, Inv Lt ow σ τ → vV X (zW ad bd ci cj cz σ τ) 314 (zL b ad bd i) []) {Lt : LT} {ow : Nat → Nat} {σ : XS} {τ : MS} (I : Inv Lt ow σ τ) : vV X (zW ad bd ci cj cz σ τ) 248 (zL b ad bd i) [] := by
  obtain ⟨tI, tG, p40, r5, tx, t30, sk, pk, tk⟩ := Inv_prx I
  obtain ⟨m30, m40, mO, mx, m5, mr, mh⟩ := Inv_pre I
  refine v_aload_n (pc := 248) C dL_law_248 rfl 1 rfl ?_
  refine v_aload_n (pc := 249) C dL_law_249 rfl 0 rfl ?_
  refine v_iload_n (pc := 250) C dL_law_250 rfl 3 rfl ?_
  refine v_iconst (pc := 251) C dL_law_251 ci_1 ?_
  refine v_iaddN (pc := 252) C dL_law_252 ?_
  refine z_sld (pc := 253) C hX hbl hbA (by omega) (j := i + 1) (by omega) dL_law_253 ?_
  refine v_aload_n (pc := 254) C dL_law_254 rfl 0 rfl ?_
  refine v_iload_n (pc := 255) C dL_law_255 rfl 3 rfl ?_
  refine v_iconst (pc := 256) C dL_law_256 ci_2 ?_
  refine v_iaddN (pc := 257) C dL_law_257 ?_
  refine z_sld (pc := 258) C hX hbl hbA (by omega) (j := i + 2) (by omega) dL_law_258 ?_
  refine z_xi (pc := 259) C [.int (xs (i + 1)), .int (xs (i + 2))] 2 (met_x_count σ (xs (i + 1)) (xs (i + 2)) p40 r5) xW_has (lw_V q188 q189 q190 q23 q191) (by decide +kernel) (by decide) (ci := 0) (q0 := 0) rfl rfl rfl rfl (Nat.le_of_ble_eq_true rfl) dL_law_259 (fun r1 u h1 => ?_)
  refine v_aload_n (pc := 262) C dL_law_262 rfl 2 rfl ?_
  refine v_aload_n (pc := 263) C dL_law_263 rfl 0 rfl ?_
  refine v_iload_n (pc := 264) C dL_law_264 rfl 3 rfl ?_
  refine v_iconst (pc := 265) C dL_law_265 ci_1 ?_
  refine v_iaddN (pc := 266) C dL_law_266 ?_
  refine z_sld (pc := 267) C hX hbl hbA (by omega) (j := i + 1) (by omega) dL_law_267 ?_
  refine v_aload_n (pc := 268) C dL_law_268 rfl 0 rfl ?_
  refine v_iload_n (pc := 269) C dL_law_269 rfl 3 rfl ?_
  refine v_iconst (pc := 270) C dL_law_270 ci_2 ?_
  refine v_iaddN (pc := 271) C dL_law_271 ?_
  refine z_sld (pc := 272) C hX hbl hbA (by omega) (j := i + 2) (by omega) dL_law_272 ?_
  refine z_mi (pc := 273) C [.int (xs (i + 1)), .int (xs (i + 2))] 2 (met_m_count τ (fun j n w => acR σ (dig w) n j) (cnt_pre I) (xs (i + 1)) (xs (i + 2)) m40 mO m5 mr) mW_has (lw_V q313 q314 q315 q24 q316) (by decide +kernel) (by decide) (ci := 1) (q0 := 0) rfl rfl rfl rfl (Nat.le_of_ble_eq_true rfl) dL_law_273 (fun r2 w h2 => ?_)
  have g := go_count I h1 h2
  refine v_icmp_eq (pc := 276) (tgt := 314) C dL_law_276 (by decide) (fun _ => ?_) (fun z => absurd g.1 z)
  exact next Lt ow u w g.2
set_option maxHeartbeats 4000000 in
theorem law_sortOf (C : vC X cL_law "LexTablesLaw" 4 (vTy ci cj cz) room_1 ad 0) {b L : Nat} {xs : Nat → Int32} (hX : va_X b L xs X.s X.s.heap) (hbl : b < X.s.heap.size) (hbA : ¬ X.A b) (hL : L ≤ 192) {i : Nat} (hi : i + 3 ≤ L) (next : ∀ Lt ow σ τ, Inv Lt ow σ τ → vV X (zW ad bd ci cj cz σ τ) 314 (zL b ad bd i) []) {Lt : LT} {ow : Nat → Nat} {σ : XS} {τ : MS} (I : Inv Lt ow σ τ) : vV X (zW ad bd ci cj cz σ τ) 281 (zL b ad bd i) [] := by
  obtain ⟨tI, tG, p40, r5, tx, t30, sk, pk, tk⟩ := Inv_prx I
  obtain ⟨m30, m40, mO, mx, m5, mr, mh⟩ := Inv_pre I
  refine v_aload_n (pc := 281) C dL_law_281 rfl 1 rfl ?_
  refine v_aload_n (pc := 282) C dL_law_282 rfl 0 rfl ?_
  refine v_iload_n (pc := 283) C dL_law_283 rfl 3 rfl ?_
  refine v_iconst (pc := 284) C dL_law_284 ci_1 ?_
  refine v_iaddN (pc := 285) C dL_law_285 ?_
  refine z_sld (pc := 286) C hX hbl hbA (by omega) (j := i + 1) (by omega) dL_law_286 ?_
  refine v_aload_n (pc := 287) C dL_law_287 rfl 0 rfl ?_
  refine v_iload_n (pc := 288) C dL_law_288 rfl 3 rfl ?_
  refine v_iconst (pc := 289) C dL_law_289 ci_2 ?_
  refine v_iaddN (pc := 290) C dL_law_290 ?_
  refine z_sld (pc := 291) C hX hbl hbA (by omega) (j := i + 2) (by omega) dL_law_291 ?_
  refine z_xi (pc := 292) C [.int (xs (i + 1)), .int (xs (i + 2))] 2 (met_x_sortOf σ (xs (i + 1)) (xs (i + 2)) tI tG p40 r5 tx t30) xW_has (lw_V q192 q193 q194 q23 q195) (by decide +kernel) (by decide) (ci := 0) (q0 := 0) rfl rfl rfl rfl (Nat.le_of_ble_eq_true rfl) dL_law_292 (fun r1 u h1 => ?_)
  refine v_aload_n (pc := 295) C dL_law_295 rfl 2 rfl ?_
  refine v_aload_n (pc := 296) C dL_law_296 rfl 0 rfl ?_
  refine v_iload_n (pc := 297) C dL_law_297 rfl 3 rfl ?_
  refine v_iconst (pc := 298) C dL_law_298 ci_1 ?_
  refine v_iaddN (pc := 299) C dL_law_299 ?_
  refine z_sld (pc := 300) C hX hbl hbA (by omega) (j := i + 1) (by omega) dL_law_300 ?_
  refine v_aload_n (pc := 301) C dL_law_301 rfl 0 rfl ?_
  refine v_iload_n (pc := 302) C dL_law_302 rfl 3 rfl ?_
  refine v_iconst (pc := 303) C dL_law_303 ci_2 ?_
  refine v_iaddN (pc := 304) C dL_law_304 ?_
  refine z_sld (pc := 305) C hX hbl hbA (by omega) (j := i + 2) (by omega) dL_law_305 ?_
  refine z_mi (pc := 306) C [.int (xs (i + 1)), .int (xs (i + 2))] 2 (met_m_sortOf τ (xs (i + 1)) (xs (i + 2)) m30 m40 mO mx m5 mr) mW_has (lw_V q317 q318 q319 q24 q320) (by decide +kernel) (by decide) (ci := 1) (q0 := 0) rfl rfl rfl rfl (Nat.le_of_ble_eq_true rfl) dL_law_306 (fun r2 w h2 => ?_)
  have g := go_sortOf I h1 h2
  refine v_icmp_eq (pc := 309) (tgt := 314) C dL_law_309 (by decide) (fun _ => ?_) (fun z => absurd g.1 z)
  exact next Lt ow u w g.2
set_option maxHeartbeats 4000000 in
/-- the law's loop, from its head -/
theorem law_loop (C : vC X cL_law "LexTablesLaw" 4 (vTy ci cj cz) room_1 ad 0) {b L : Nat} {xs : Nat → Int32} (hX : va_X b L xs X.s X.s.heap) (hbl : b < X.s.heap.size) (hbA : ¬ X.A b) (hL : L ≤ 192) (fin : ∀ σ τ i, vV X (zW ad bd ci cj cz σ τ) 320 (zL b ad bd i) []) :
    ∀ i, i ≤ L → ∀ Lt ow σ τ, Inv Lt ow σ τ → vV X (zW ad bd ci cj cz σ τ) 18 (zL b ad bd i) [] := by
  refine lp_3 (fun i hi ih => ?_)
  intro Lt ow σ τ I
  refine v_iload_n (pc := 18) C dL_law_18 rfl 3 rfl ?_
  refine v_aload_n (pc := 19) C dL_law_19 rfl 0 rfl ?_
  refine z_slen (pc := 20) C hX hbl hbA dL_law_20 ?_
  refine v_iconst (pc := 21) C dL_law_21 ci_3 ?_
  refine v_isub (pc := 22) C dL_law_22 ?_
  refine v_icmp_gt (pc := 23) (tgt := 320) C dL_law_23 (by decide) (fun _ => fin σ τ i) (fun h => ?_)
  have hi3 : i + 3 ≤ L := by
    rw [lp_tst hL (by omega)] at h
    omega
  have next : ∀ Lt ow σ τ, Inv Lt ow σ τ → vV X (zW ad bd ci cj cz σ τ) 314 (zL b ad bd i) [] := by
    intro Lt ow σ τ I
    refine v_iinc (pc := 314) (v := nI (i + 3)) (lv' := [(3, .int (nI (i + 3))), (0, .ref b), (1, .ref (ad 0)), (2, .ref (bd 0))]) C dL_law_314 3 rfl (by rw [ci_3, nI_add]) (by decide) rfl ?_
    refine v_goto (tgt := 18) (pc := 317) C dL_law_317 (by decide) ?_
    refine v_sub (lv' := zL b ad bd (i + 3)) [1, 2, 3, 0] rfl ?_
    exact ih hi3 Lt ow σ τ I
  refine v_aload_n (pc := 26) C dL_law_26 rfl 0 rfl ?_
  refine v_iload_n (pc := 27) C dL_law_27 rfl 3 rfl ?_
  refine z_sld (pc := 28) C hX hbl hbA (by omega) (j := i) (by omega) dL_law_28 ?_
  refine v_bipush (pc := 29) C dL_law_29 cb_15 ?_
  refine v_iand (pc := 31) C dL_law_31 ?_
  rw [a15_and]
  have h16 := a15_lt (xs i)
  generalize a15 (xs i) = c at h16 ⊢
  have hc : c = 0 ∨ c = 1 ∨ c = 2 ∨ c = 3 ∨ c = 4 ∨ c = 5 ∨ c = 6 ∨ c = 7 ∨ c = 8 ∨ c = 9 ∨ 10 ≤ c := by omega
  rcases hc with rfl | rfl | rfl | rfl | rfl | rfl | rfl | rfl | rfl | rfl | hc
  · refine z_tabIn (pc := 32) (off := 56) (tgt := 88) C dL_law_32 (by decide) (by decide) (by decide) (by decide) ?_
    exact law_token C hX hbl hbA hL hi3 next I
  · refine z_tabIn (pc := 32) (off := 89) (tgt := 121) C dL_law_32 (by decide) (by decide) (by decide) (by decide) ?_
    exact law_clear C hX hbl hbA hL hi3 next I
  · refine z_tabIn (pc := 32) (off := 100) (tgt := 132) C dL_law_32 (by decide) (by decide) (by decide) (by decide) ?_
    exact law_type C hX hbl hbA hL hi3 next I
  · refine z_tabIn (pc := 32) (off := 123) (tgt := 155) C dL_law_32 (by decide) (by decide) (by decide) (by decide) ?_
    exact law_erase C hX hbl hbA hL hi3 next I
  · refine z_tabIn (pc := 32) (off := 134) (tgt := 166) C dL_law_32 (by decide) (by decide) (by decide) (by decide) ?_
    exact law_words C hX hbl hbA hL hi3 next I
  · refine z_tabIn (pc := 32) (off := 147) (tgt := 179) C dL_law_32 (by decide) (by decide) (by decide) (by decide) ?_
    exact law_sort C hX hbl hbA hL hi3 next I
  · refine z_tabIn (pc := 32) (off := 170) (tgt := 202) C dL_law_32 (by decide) (by decide) (by decide) (by decide) ?_
    exact law_length C hX hbl hbA hL hi3 next I
  · refine z_tabIn (pc := 32) (off := 193) (tgt := 225) C dL_law_32 (by decide) (by decide) (by decide) (by decide) ?_
    exact law_matches C hX hbl hbA hL hi3 next I
  · refine z_tabIn (pc := 32) (off := 216) (tgt := 248) C dL_law_32 (by decide) (by decide) (by decide) (by decide) ?_
    exact law_count C hX hbl hbA hL hi3 next I
  · refine z_tabIn (pc := 32) (off := 249) (tgt := 281) C dL_law_32 (by decide) (by decide) (by decide) (by decide) ?_
    exact law_sortOf C hX hbl hbA hL hi3 next I
  · refine z_tabOut (pc := 32) (tgt := 314) C dL_law_32 (Or.inr (by rw [nI_toInt (by omega)]; omega)) (by decide) ?_
    exact next Lt ow σ τ I
end LL
end
section
/-! THE CLAIM OUT OF ONE WALK OF THE LAW'S BODY. Your part is whole_start (and what it stands on); all else here is the same for every law, but numbers. -/
def R_law : String := "LexTablesLaw"
def lw_P (b : Addr) (xs : List Int32) (args : Array Value) (s : State) : Prop := args = #[.ref b] ∧ s.IntsAt b xs ∧ xs.length ≤ 192 ∧ (Jvm.Cond.and given_1 narrow_1).before args s = true
def lw_Q (_ : Array Value) (s : State) (o : Outcome) (t : State) : Prop := o = .returned (some (.int 1)) ∧ Framed s o t [] 600000 7302250
def lw_Z (below : List Frame) (a : Array Value) (s : State) : State → Prop := fun t => ∃ o, t.status = .running ∧ Ended t below o ∧ lw_Q a s o t
/-- the law's own end, with 1 on the stack, nothing written that was there before, its room as the claim has it -/
theorem lw_ret {p : Program} {l : Launch} {e : Env} {s : State} {m : MethodId} {below : List Frame} {meth : Method} {c : Code} {b : Nat} (hx : p.tables.exec = Jvm.exec) (hb : c.code = code) (hr : meth.sig.returnType = ret) (hlocks : meth.locks = false) {pc : Nat} {H : Heap} {ls : Array Slot} (hdg : decode code pc = .ok (.ireturn, 1)) : W p l e room_1 s m #[Value.ref b] below meth c H [] 600000 7302250 (lw_Z below #[Value.ref b] s) (F0 m pc ls [.int 1]) := by
  intro T hT X
  obtain ⟨fs, hret, hrun, hended, hW, hframe⟩ := X.leave (v := some (.int 1)) (hlocks := hlocks) (fun h => by rw [hr] at h; cases h)
  have hmeth' : T.vm.method? m = some meth := X.method'
  refine ⟨T.setFrames fs, ?_, .returned (some (.int 1)), hrun, hended, rfl, ⟨_, rfl⟩, hW, hframe⟩
  jvm_step X.here [X.here.top, hx, hb, hdg, hmeth', hr, ret, narrow_b1]
  (try refine ⟨rfl, ?_⟩); (try refine ⟨rfl, ?_⟩)
  first | (intro acts; rw [hret _ acts rfl rfl rfl]) | rw [hret _ _ rfl rfl rfl]
  exact Steps.refl _
/-- what holds at the law's entry: the machine, the code, the tables' words (any of lw_tbl by 'hts w (by decide +kernel)'), the script of L ints xs at the cell b, what the Statement gives of the start (any of its parts by flat_of_before) -/
def lw_At (p : Program) (s : State) (m : MethodId) (meth : Method) (c : Code) (b L : Nat) (xs : Nat → Int32) : Prop :=
  p.tables.exec = Jvm.exec ∧ c.code = code ∧ meth.sig.returnType = ret ∧ c.maxLocals = 4 ∧ s.vm.findClass R_law = some m.cls ∧ (∀ w ∈ lw_tbl, w.before #[Value.ref b] s = true) ∧ va_X b L xs s s.heap ∧ b < s.heap.size ∧ meth.locks = false ∧ (Jvm.Cond.and given_1 narrow_1).before #[Value.ref b] s = true
end
section
set_option maxRecDepth 100000
section WH
theorem zX0_ok : ∀ j, j < 21 → defaultValue (tyX0 j) = vp_V zX0 j := by
  intro j h
  match j, h with
  | 0, _ => rfl
  | 1, _ => rfl
  | 2, _ => rfl
  | 3, _ => rfl
  | 4, _ => rfl
  | 5, _ => rfl
  | 6, _ => rfl
  | 7, _ => rfl
  | 8, _ => rfl
  | 9, _ => rfl
  | 10, _ => rfl
  | 11, _ => rfl
  | 12, _ => rfl
  | 13, _ => rfl
  | 14, _ => rfl
  | 15, _ => rfl
  | 16, _ => rfl
  | 17, _ => rfl
  | 18, _ => rfl
  | 19, _ => rfl
  | 20, _ => rfl
  | k + 21, h => exact absurd h (by omega)
theorem zX1_ok : ∀ j, j < 14 → defaultValue (tyX1 j) = vp_V zX1 j := by
  intro j h
  match j, h with
  | 0, _ => rfl
  | 1, _ => rfl
  | 2, _ => rfl
  | 3, _ => rfl
  | 4, _ => rfl
  | 5, _ => rfl
  | 6, _ => rfl
  | 7, _ => rfl
  | 8, _ => rfl
  | 9, _ => rfl
  | 10, _ => rfl
  | 11, _ => rfl
  | 12, _ => rfl
  | 13, _ => rfl
  | k + 14, h => exact absurd h (by omega)
theorem one_has (q : Nat) (E : va_E) : ∀ j, j < 1 → ∃ e, ([(q, E)] : va_W)[j]? = some ((fun _ => q) j, e) := by
  intro j hj
  match j, hj with
  | 0, _ => exact ⟨E, rfl⟩
  | k + 1, h => exact absurd h (by omega)
theorem arr_known {s : State} {args : Array Value} {ty : FieldType} (h : (Cond.arrayClass ty).before args s = true) (hra : ∀ U c, va_RA U c ty = (U.vm.findClass ("[" ++ ty.toString) = some c)) : ∃ cA, ArrOfT s cA ty ∧ va_RA s cA ty := by
  obtain ⟨cA, kA, comp, h1, h2, h3⟩ := Cond.arrayClass_spec h
  exact ⟨cA, fun n z => ⟨fun k h => (by cases h), kA, h2, comp, h3⟩, by rw [hra]; exact h1⟩
theorem classes_law {s : State} {args : Array Value} (hts : ∀ w ∈ lw_all, w.before args s = true) : ∃ D : va_G, ∀ (k : Nat) (q : vw_C), vwCl[k]? = some q → u_Kn s q.1 q.2.1 q.2.2 (D.1 k) (D.2 k) := by
  obtain ⟨c0, i0, h0⟩ := u_known (C := RX0) (T := TX0) (N := 21) (n := 21) hts in_X0 (hts _ q26)
  obtain ⟨c1, i1, h1⟩ := u_known (C := RX1) (T := TX1) (N := 14) (n := 14) hts in_X1 (hts _ q197)
  refine ⟨(fun k => if k = 0 then c0 else c1, fun k => if k = 0 then i0 else i1), ?_⟩
  intro k q hq
  match k, hq with
  | 0, hq => cases hq; exact h0
  | 1, hq => cases hq; exact h1
  | k + 2, hq => simp [vwCl] at hq
set_option maxHeartbeats 4000000 in
theorem whole_start {p : Program} {e : Env} {s : State} {m : MethodId} {below : List Frame} {meth : Method} {c : Code} (l : Launch) {b L : Nat} {xs : Nat → Int32} (hL : L ≤ 192) (C0 : lw_At p s m meth c b L xs) : W p l e room_1 s m #[Value.ref b] below meth c s.heap [] 0 0 (lw_Z below #[Value.ref b] s) (entryFrame m ([Value.ref b] : List Value).toArray 4) := by
  obtain ⟨hx, hb, hr, hml, hown, hts0, hX, hbl, hlk, hgv⟩ := C0
  have hown : s.vm.findClass "LexTablesLaw" = some m.cls := hown
  have hts : ∀ w ∈ lw_all, w.before #[Value.ref b] s = true := fun w h => hts0 w (lw_all_tbl h)
  obtain ⟨D, hKc⟩ := classes_law hts
  obtain ⟨ci, hci⟩ := arr_known (hts _ q103) (fun _ _ => rfl)
  obtain ⟨cj, hcj⟩ := arr_known (hts _ q101) (fun _ _ => rfl)
  obtain ⟨cz, hcz⟩ := arr_known (hts _ q102) (fun _ _ => rfl)
  have hK : va_K D vwCl (vTy ci cj cz) s := by
    refine ⟨hKc, fun k q hk => ?_⟩
    match k, hk with
    | 0, hk => cases hk; exact hci
    | 1, hk => cases hk; exact hcj
    | 2, hk => cases hk; exact hcz
    | k + 3, hk => simp at hk
  obtain ⟨A, hAe⟩ : ∃ A : Nat → Prop, A = fun q => s.heap.size ≤ q := ⟨_, rfl⟩
  have hA : ∀ q : Nat, s.heap.size ≤ q → A q := fun q h => by rw [hAe]; exact h
  have hbA : ¬ A b := by rw [hAe]; exact Nat.not_le.mpr hbl
  have hP : va_P D vwCl [] s.heap := fun k q h => by simp at h
  have hD : va_D A [] := ⟨fun i j p q h => by simp at h, fun k q h => by simp at h⟩
  have hS : va_S A s.heap s.heap [] := va_S.rf
  have hl := lv_entry ([.ref b] : List Value) (n := 4) (Nat.le_of_ble_eq_true rfl)
  rw [lg_entry_eq]
  generalize (lg_sl ([.ref b]) ++ List.replicate (4 - (lg_sl ([.ref b])).length) Slot.unset).toArray = ls at hl ⊢
  have hl : lv_has ls 4 [(0, .ref b)] := hl
  refine va_new (ci := 0) (fs := zX0) (C := RX0) (T := TX0) (N := 21) hx hb hts in_X0 tyX0 tyX0_ok hown (hts _ q25) (hts _ q26) (hts _ q23) hK hP hD hS hA rfl zX0_ok (Nat.le_of_ble_eq_true rfl) (Nat.le_of_ble_eq_true rfl) dL_law_0 (fun qx H hP hD hS => ?_)
  have hP : va_P D vwCl [(qx, .inr (0, zX0))] H := hP
  have hD : va_D A [(qx, .inr (0, zX0))] := hD
  refine lv_dup hx hb dL_law_3 rfl ?_
  have hF := z_own (ad := fun _ => qx) (n := 1) hD hS hA (one_has qx _)
  refine va_callv (va_runI (As := []) (rest := [.ref qx]) ⟨hx, hb, hml, hown, hts⟩ (met_x_init (l := l) (D := D) (ci := ci) (cj := cj) (cz := cz) qx H.size) (cwI 0 hts (lw_meth q29) rfl rfl rfl (hts _ q23) (hts _ q27) (hts _ q28) rfl (by decide +kernel) ⟨Nat.le_of_ble_eq_true rfl, Nat.le_of_ble_eq_true rfl⟩) ⟨vPre_blind, fun U hU hW => ⟨rfl, by rw [hU], by rw [hU]; exact hP, va_K.moved hW.alike hK, hD.weaken (fun _ _ _ _ => trivial)⟩⟩ rfl rfl hl.1 rfl (lv_room (Nat.le_of_ble_eq_true rfl)) dL_law_4 ⟨Nat.le_of_ble_eq_true rfl, Nat.le_of_ble_eq_true rfl⟩) hS (fun q _ h => hF q h) hF (fun ad t H1 locs1 ht hvm hw1 hB hz1 hk1 hS => ?_)
  obtain ⟨hP1, hD1⟩ := hB
  rw [ht] at hP1
  have hP : va_P D vwCl (xW ad ci cj cz (x_empty xz0)) H1 := hP1
  have hD : va_D A (xW ad ci cj cz (x_empty xz0)) := hD1.weaken (fun k q _ h => hF q.1 h)
  refine lv_astore_n (lv' := [(1, .ref qx), (0, .ref b)]) hx hb dL_law_7 rfl hl (by decide) rfl (fun ls hl => ?_)
  refine va_new (ci := 1) (fs := zX1) (C := RX1) (T := TX1) (N := 14) hx hb hts in_X1 tyX1 tyX1_ok hown (hts _ q196) (hts _ q197) (hts _ q24) hK hP hD hS hA rfl zX1_ok (Nat.le_of_ble_eq_true rfl) (Nat.le_of_ble_eq_true rfl) dL_law_8 (fun qm H hP hD hS => ?_)
  refine lv_dup hx hb dL_law_11 rfl ?_
  have hPa := wr hP
  have hPb := wl hP
  have hDa := dr hD
  have hDb := dl hD
  have hh := one_has qm (.inr (1, zX1))
  have hF2 := z_own (ad := fun _ => qm) (n := 1) hDa hS hA hh
  refine va_callv (va_runI (As := []) (rest := [.ref qm]) ⟨hx, hb, hml, hown, hts⟩ (met_m_init (l := l) (D := D) (ci := ci) (cj := cj) (cz := cz) qm H.size) (cwI 0 hts (lw_meth q200) rfl rfl rfl (hts _ q24) (hts _ q198) (hts _ q199) rfl (by decide +kernel) ⟨Nat.le_of_ble_eq_true rfl, Nat.le_of_ble_eq_true rfl⟩) ⟨vPre_blind, fun U hU hW => ⟨rfl, by rw [hU], by rw [hU]; exact hPa, va_K.moved hW.alike hK, hDa.weaken (fun _ _ _ _ => trivial)⟩⟩ rfl rfl hl.1 rfl (lv_room (Nat.le_of_ble_eq_true rfl)) dL_law_12 ⟨Nat.le_of_ble_eq_true rfl, Nat.le_of_ble_eq_true rfl⟩) hS (fun q _ h => hF2 q h) hF2 (fun bd t H1 locs1 ht hvm hw2 hB hz1 hk1 hS => ?_)
  obtain ⟨hP1, hD1⟩ := hB
  rw [ht] at hP1
  obtain ⟨hPb1, no⟩ := z_kept (ad := fun _ => qm) (n := 1) hPb (fun i j p q h1 h2 e => dx hD j i q p h2 h1 e.symm) hh hk1
  have hP : va_P D vwCl (zW ad bd ci cj cz (x_empty xz0) mz0) H1 := hPb1.app hP1
  have hD : va_D A (zW ad bd ci cj cz (x_empty xz0) mz0) := va_D.app hDb (hD1.weaken (fun k q _ h => hF2 q.1 h)) (fun i j p q h1 h2 e => no i p h1 (by rw [e]; exact hD1.2 j q h2))
  refine lv_astore_n (lv' := [(2, .ref qm), (1, .ref qx), (0, .ref b)]) hx hb dL_law_15 rfl hl (by decide) rfl (fun ls hl => ?_)
  refine lv_iconst (v := nI 0) hx hb dL_law_16 ci_0 ?_
  refine lv_istore_n (lv' := [(3, .int (nI 0)), (2, .ref qm), (1, .ref qx), (0, .ref b)]) hx hb dL_law_17 rfl hl (by decide) rfl (fun ls hl => ?_)
  have hl : lv_has ls 4 (zL b ad bd 0) := by
    have hw1 : ad 0 = qx := hw1
    have hw2 : bd 0 = qm := hw2
    rw [← hw1, ← hw2] at hl
    exact lv_sub hl [3, 2, 1, 0] rfl
  refine W.widen (k := 25) (n := 39297) (Nat.le_of_ble_eq_true rfl) (Nat.le_of_ble_eq_true rfl) ?_
  have C : vC (p, l, e, room_1, s, m, #[Value.ref b], below, meth, c, 25, 39297, lw_Z below #[Value.ref b] s, A, D, 4) cL_law "LexTablesLaw" 4 (vTy ci cj cz) room_1 ad 0 := ⟨hx, hb, hml, rfl, hown, hts, hK, hlk, ⟨Nat.le_of_ble_eq_true rfl, Nat.le_of_ble_eq_true rfl⟩, rfl, fun q sz h1 h2 => by
    rcases h2 with ⟨j, hj, _⟩ | h2
    · omega
    · exact hA q (Nat.le_trans h1 h2)⟩
  refine law_loop (bd := bd) C hX hbl hbA hL ?_ 0 (Nat.zero_le _) _ _ _ _ Inv_0 H1 locs1 hP hD hS ls hl
  intro σ τ i
  refine v_iconst (v := 1) (pc := 320) C dL_law_320 (by decide) ?_
  intro H locs hP hD hS ls hl
  refine va_forget (fun q hq => ?_) ?_
  · have h := hS.2.2 q hq
    have h : A q.base := h
    rw [hAe] at h
    exact h
  · refine W.widen (k := 600000) (n := 7302250) (Nat.le_of_ble_eq_true rfl) (Nat.le_of_ble_eq_true rfl) ?_
    exact lw_ret hx hb hr hlk dL_law_321
end WH
end
section
set_option maxHeartbeats 4000000 in
theorem lw_walk (l : Launch) (b : Addr) (xs : List Int32) : MetFree l x (headSpec (Jvm.Cond.code x code maxLocals ret :: tables_1) room_1) (lw_P b xs) (fun _ _ _ _ _ => True) lw_Q := by
  refine MetFree.of_bodyS (code := code) (maxLocals := maxLocals) (ret := ret) (by decide) ?_ ?_
  · intro args s m h hn
    obtain ⟨meth, c, h1, h2, h3, h4, h5, h6, -, -⟩ := Cond.code_spec hn (atoms_spec (ws := Jvm.Cond.code x code maxLocals ret :: tables_1) h _ List.mem_cons_self)
    exact ⟨meth, c, h1, h2, h3, h4, h5, h6⟩
  · intro p e s m args below meth c s₁ B hml0 hP _
    obtain ⟨rfl, hx, hbd, hgv⟩ := hP
    obtain ⟨scr, harrAt, hlist, hof, hsmall⟩ := hx
    obtain ⟨hcb, hkn, -, -⟩ := State.arrayAt?_spec harrAt
    have hown : s.vm.findClass R_law = some m.cls := findClass_of_methodNamed B.named
    have hts0 : ∀ c ∈ (Jvm.Cond.code x code maxLocals ret :: tables_1), c.before #[Value.ref b] s = true := atoms_spec (ws := Jvm.Cond.code x code maxLocals ret :: tables_1) B.pre
    have hts : ∀ w ∈ lw_tbl, w.before #[Value.ref b] s = true := k2_hts_sels lw_privs (fun w hw => hts0 w (List.mem_cons_of_mem _ hw)) lw_privs_ok
    have hml : c.maxLocals = 4 := B.maxLocals_eq (hts0 _ List.mem_cons_self)
    have X₀ : Stand p l e room_1 s m #[Value.ref b] below meth c s₁ [] 0 0 := Stand.of_body B
    have hh0 : s₁.heap = s.heap := by rw [B.state]; rfl
    have hsz : scr.slots.size = xs.length := by rw [← Array.length_toList, hlist, List.length_map]
    have hval : ∀ j : Nat, j < xs.length → scr.slots[j]? = some (.int (xs.getD j 0)) := fun j hj => by
      rw [← Array.getElem?_toList, hlist]
      simp [hj]
    have hbl : b < s.heap.size := (Array.getElem?_eq_some_iff.mp hcb).1
    have hX : va_X b xs.length (fun j => xs.getD j 0) s s.heap := ⟨scr, hcb, hof, hkn, hsz, hval⟩
    have K : W p l e room_1 s m #[Value.ref b] below meth c s₁.heap [] 0 0 (lw_Z below #[Value.ref b] s) (entryFrame m ([Value.ref b] : List Value).toArray 4) := by
      rw [hh0]
      exact whole_start l hbd ⟨B.exec, B.bytes, B.returns, hml, hown, hts, hX, hbl, B.notSynchronized, hgv⟩
    obtain ⟨t, a1, o, b1, b2, b3⟩ := K s₁ rfl X₀
    exact ⟨t, o, a1, b1, b2, b3⟩
theorem lw_pre_spec {args : Array Value} {s : State} (h : (Jvm.Cond.and given_1 narrow_1).before args s = true) (hr : rest_1_c.before args s = true) : ∃ (b : Addr) (xs : List Int32), lw_P b xs args s := by
  have hs := flat_of_before _ h
  have hq := flat_of_before _ hr
  have hc : (Cond.count 1).before args s = true := hs _ (by decide +kernel)
  have harr : (Cond.arrayOf (.arg 0) .int).before args s = true := hs _ (by decide +kernel)
  have hle : (Cond.le (.length (.arg 0)) (.int 192)).before args s = true := hs _ (by decide +kernel)
  have hlen : (Cond.isInt (.length (.arg 0))).before args s = true := hq _ (by decide +kernel)
  have hall : (Cond.all (.arg 0) (.isInt (.elem (.arg 0) (.index 0)))).before args s = true := hq _ (by decide +kernel)
  obtain ⟨b, xs, hb, hx⟩ := State.ints_of_pre rfl harr hlen hall
  have hsm : xs.length < 2 ^ 31 := hx.choose_spec.2.2.2
  have hev : (Term.length (.arg 0)).eval args s none [] s = some (.int xs.length.toInt32) := hx.length_eval hb
  have hv := Cond.le_ints hev (show (Term.int 192).eval args s none [] s = some (.int 192) from rfl)
  have hd : xs.length.toInt32 ≤ 192 := by
    simpa [Cond.before, Cond.holds, hv] using hle
  have hN : xs.length ≤ 192 := (Int32.ofNat_le_ofNat hsm (by decide)).mp (show Int32.ofNat xs.length ≤ Int32.ofNat 192 from hd)
  exact ⟨b, xs, Cond.one_arg hc (show args[0]? = some (.ref b) from hb), hx, hN, h⟩
theorem lw_comes (l : Launch) : Comes l x (Jvm.Cond.code x code maxLocals ret :: tables_1) room_1 (fun tb e args s => Calls_1 tb e args s ∧ rest_1 tb e args s ∧ Pre_1 tb e args s)
    (fun _ _ args s o t => lw_Q args s o t) := by
  intro p e ha hc hk s m args below hf hfit hheap happ hpre
  obtain ⟨b, xs, hP⟩ := lw_pre_spec hpre.2.2 hpre.2.1
  obtain ⟨k, o, h1, h2, h3, hQ⟩ := lw_walk l b xs p e ha hc hk s m args below hf ((Spec.applies_iff_loose hf).mp happ).1 hP trivial
  exact ⟨k, o, h1, h2, h3, hQ⟩
theorem lw_frame {s t : State} {o : Outcome} {args : Array Value} (h : Framed s o t [] 600000 7302250) :
    Framed s o t (fieldLocs frame_1_writes args s ++ arrayLocs frame_1_arrays args s ++ staticLocs frame_1_statics s) 600000 7302250 := h
theorem lw_limb (L : Cond) (hL : ∀ (args : Array Value) (s t : State), L.after args s (.returned (some (.int 1))) t = true) :
    ArmFor flags0 classFile x code maxLocals ret World_1 tables_1 room_1 Calls_1 rest_1 Pre_1
      (fun tb e a s o t => postC L tb e a s o t ∧ Framed s o t (fieldLocs frame_1_writes a s ++ arrayLocs frame_1_arrays a s ++ staticLocs frame_1_statics s) 600000 7302250) := by
  intro l _ _ _ p e ha hc hk s m args below hf hfit hheap happ hpre
  obtain ⟨k, o, h1, h2, h3, rfl, hF⟩ := lw_comes l p e ha hc hk s m args below hf hfit hheap happ hpre
  exact ⟨k, _, h1, h2, h3, hL args s _, lw_frame hF⟩
theorem i_vc : Claimed_1_1 ∧ Claimed_1_2 := ⟨lw_limb limb_1_1 (fun args s t => by simp [limb_1_1, Cond.after, Cond.holds, Cond.value]), lw_limb limb_1_2 (fun args s t => Cond.after_iff.mpr (by
  first | (rw [show limb_1_2 = Cond.eq .result (.int 1) from rfl, Cond.eq_ints (x := 1) (y := 1) rfl rfl]; simp; done) | (simp [limb_1_2, Cond.value, Term.eval]; done)))⟩
end
