section
-- ===== PART A: goes FIRST, ahead of the names: the tables' words, and 'selects' of the private methods out of them =====
/-- a private method of a class that the tables say can be made, by its rows of tables_1 -/
def lw_okq (q : MethodName × Nat) : Prop := (q.1.cls ≠ "java/lang/invoke/MethodHandle" ∧ q.1.cls ≠ "java/lang/invoke/VarHandle") ∧ Cond.instantiable q.1.cls q.2 ∈ tables_1 ∧ Cond.privateMethod q.1 ∈ tables_1 ∧ Cond.instanceMethod q.1 ∈ tables_1
set_option maxRecDepth 100000
theorem lw_t1 {w : Cond} (h : w ∈ tables_1_1) : w ∈ tables_1 := List.mem_append_left _ h
theorem lw_t2 {w : Cond} (h : w ∈ tables_1_2) : w ∈ tables_1 := List.mem_append_right _ h
theorem lw_p0 : lw_okq (⟨"RelooperRun", "setEnd", "(IIII)V"⟩, 27) := ⟨⟨by decide +kernel, by decide +kernel⟩, lw_t1 (List.mem_of_getElem? (i := 4) rfl), lw_t1 (List.mem_of_getElem? (i := 113) rfl), lw_t1 (List.mem_of_getElem? (i := 114) rfl)⟩
theorem lw_p1 : lw_okq (⟨"RelooperRun", "prepare", "()V"⟩, 27) := ⟨⟨by decide +kernel, by decide +kernel⟩, lw_t1 (List.mem_of_getElem? (i := 4) rfl), lw_t1 (List.mem_of_getElem? (i := 133) rfl), lw_t1 (List.mem_of_getElem? (i := 134) rfl)⟩
theorem lw_p2 : lw_okq (⟨"RelooperRun", "orderBlocks", "()V"⟩, 27) := ⟨⟨by decide +kernel, by decide +kernel⟩, lw_t1 (List.mem_of_getElem? (i := 4) rfl), lw_t1 (List.mem_of_getElem? (i := 137) rfl), lw_t1 (List.mem_of_getElem? (i := 138) rfl)⟩
theorem lw_p3 : lw_okq (⟨"RelooperRun", "findLoops", "()V"⟩, 27) := ⟨⟨by decide +kernel, by decide +kernel⟩, lw_t1 (List.mem_of_getElem? (i := 4) rfl), lw_t1 (List.mem_of_getElem? (i := 141) rfl), lw_t1 (List.mem_of_getElem? (i := 142) rfl)⟩
theorem lw_p4 : lw_okq (⟨"RelooperRun", "addLoop", "(II)V"⟩, 27) := ⟨⟨by decide +kernel, by decide +kernel⟩, lw_t1 (List.mem_of_getElem? (i := 4) rfl), lw_t1 (List.mem_of_getElem? (i := 145) rfl), lw_t1 (List.mem_of_getElem? (i := 146) rfl)⟩
theorem lw_p5 : lw_okq (⟨"RelooperRun", "widenOnce", "()Z"⟩, 27) := ⟨⟨by decide +kernel, by decide +kernel⟩, lw_t1 (List.mem_of_getElem? (i := 4) rfl), lw_t1 (List.mem_of_getElem? (i := 149) rfl), lw_t1 (List.mem_of_getElem? (i := 150) rfl)⟩
theorem lw_p6 : lw_okq (⟨"RelooperRun", "emit", "()V"⟩, 27) := ⟨⟨by decide +kernel, by decide +kernel⟩, lw_t1 (List.mem_of_getElem? (i := 4) rfl), lw_t1 (List.mem_of_getElem? (i := 153) rfl), lw_t1 (List.mem_of_getElem? (i := 154) rfl)⟩
theorem lw_p7 : lw_okq (⟨"RelooperRun", "put", "(II)V"⟩, 27) := ⟨⟨by decide +kernel, by decide +kernel⟩, lw_t1 (List.mem_of_getElem? (i := 4) rfl), lw_t1 (List.mem_of_getElem? (i := 157) rfl), lw_t1 (List.mem_of_getElem? (i := 158) rfl)⟩
theorem lw_p8 : lw_okq (⟨"RelooperRun", "endLoop", "(II)V"⟩, 27) := ⟨⟨by decide +kernel, by decide +kernel⟩, lw_t1 (List.mem_of_getElem? (i := 4) rfl), lw_t1 (List.mem_of_getElem? (i := 161) rfl), lw_t1 (List.mem_of_getElem? (i := 162) rfl)⟩
theorem lw_p9 : lw_okq (⟨"RelooperRun", "perform", "(II)I"⟩, 27) := ⟨⟨by decide +kernel, by decide +kernel⟩, lw_t1 (List.mem_of_getElem? (i := 4) rfl), lw_t1 (List.mem_of_getElem? (i := 165) rfl), lw_t1 (List.mem_of_getElem? (i := 166) rfl)⟩
theorem lw_p10 : lw_okq (⟨"RelooperRun", "enter", "(I)V"⟩, 27) := ⟨⟨by decide +kernel, by decide +kernel⟩, lw_t1 (List.mem_of_getElem? (i := 4) rfl), lw_t1 (List.mem_of_getElem? (i := 169) rfl), lw_t1 (List.mem_of_getElem? (i := 170) rfl)⟩
theorem lw_p11 : lw_okq (⟨"RelooperRun", "carryOut", "(I)V"⟩, 27) := ⟨⟨by decide +kernel, by decide +kernel⟩, lw_t1 (List.mem_of_getElem? (i := 4) rfl), lw_t1 (List.mem_of_getElem? (i := 173) rfl), lw_t1 (List.mem_of_getElem? (i := 174) rfl)⟩
theorem lw_p12 : lw_okq (⟨"RelooperRunModel", "bad", "(I)Z"⟩, 13) := ⟨⟨by decide +kernel, by decide +kernel⟩, lw_t1 (List.mem_of_getElem? (i := 201) rfl), lw_t2 (List.mem_of_getElem? (i := 11) rfl), lw_t2 (List.mem_of_getElem? (i := 12) rfl)⟩
theorem lw_p13 : lw_okq (⟨"RelooperRunModel", "badVariable", "(I)Z"⟩, 13) := ⟨⟨by decide +kernel, by decide +kernel⟩, lw_t1 (List.mem_of_getElem? (i := 201) rfl), lw_t2 (List.mem_of_getElem? (i := 15) rfl), lw_t2 (List.mem_of_getElem? (i := 16) rfl)⟩
theorem lw_p14 : lw_okq (⟨"RelooperRunModel", "enter", "(I)V"⟩, 13) := ⟨⟨by decide +kernel, by decide +kernel⟩, lw_t1 (List.mem_of_getElem? (i := 201) rfl), lw_t2 (List.mem_of_getElem? (i := 43) rfl), lw_t2 (List.mem_of_getElem? (i := 44) rfl)⟩
theorem lw_p15 : lw_okq (⟨"RelooperRunModel", "carryOut", "(I)V"⟩, 13) := ⟨⟨by decide +kernel, by decide +kernel⟩, lw_t1 (List.mem_of_getElem? (i := 201) rfl), lw_t2 (List.mem_of_getElem? (i := 47) rfl), lw_t2 (List.mem_of_getElem? (i := 48) rfl)⟩
def lw_privs_1 : List (MethodName × Nat) := [(⟨"RelooperRun", "setEnd", "(IIII)V"⟩, 27), (⟨"RelooperRun", "prepare", "()V"⟩, 27), (⟨"RelooperRun", "orderBlocks", "()V"⟩, 27), (⟨"RelooperRun", "findLoops", "()V"⟩, 27), (⟨"RelooperRun", "addLoop", "(II)V"⟩, 27), (⟨"RelooperRun", "widenOnce", "()Z"⟩, 27), (⟨"RelooperRun", "emit", "()V"⟩, 27), (⟨"RelooperRun", "put", "(II)V"⟩, 27), (⟨"RelooperRun", "endLoop", "(II)V"⟩, 27), (⟨"RelooperRun", "perform", "(II)I"⟩, 27), (⟨"RelooperRun", "enter", "(I)V"⟩, 27), (⟨"RelooperRun", "carryOut", "(I)V"⟩, 27), (⟨"RelooperRunModel", "bad", "(I)Z"⟩, 13), (⟨"RelooperRunModel", "badVariable", "(I)Z"⟩, 13), (⟨"RelooperRunModel", "enter", "(I)V"⟩, 13), (⟨"RelooperRunModel", "carryOut", "(I)V"⟩, 13)]
theorem lw_r1 : ∀ q ∈ lw_privs_1, lw_okq q := List.forall_mem_cons.mpr ⟨lw_p0, List.forall_mem_cons.mpr ⟨lw_p1, List.forall_mem_cons.mpr ⟨lw_p2, List.forall_mem_cons.mpr ⟨lw_p3, List.forall_mem_cons.mpr ⟨lw_p4, List.forall_mem_cons.mpr ⟨lw_p5, List.forall_mem_cons.mpr ⟨lw_p6, List.forall_mem_cons.mpr ⟨lw_p7, List.forall_mem_cons.mpr ⟨lw_p8, List.forall_mem_cons.mpr ⟨lw_p9, List.forall_mem_cons.mpr ⟨lw_p10, List.forall_mem_cons.mpr ⟨lw_p11, List.forall_mem_cons.mpr ⟨lw_p12, List.forall_mem_cons.mpr ⟨lw_p13, List.forall_mem_cons.mpr ⟨lw_p14, List.forall_mem_cons.mpr ⟨lw_p15, fun _ h => absurd h List.not_mem_nil⟩⟩⟩⟩⟩⟩⟩⟩⟩⟩⟩⟩⟩⟩⟩⟩
theorem lw_p16 : lw_okq (⟨"RelooperRunModel", "out", "(I)V"⟩, 13) := ⟨⟨by decide +kernel, by decide +kernel⟩, lw_t1 (List.mem_of_getElem? (i := 201) rfl), lw_t2 (List.mem_of_getElem? (i := 51) rfl), lw_t2 (List.mem_of_getElem? (i := 52) rfl)⟩
def lw_privs_2 : List (MethodName × Nat) := [(⟨"RelooperRunModel", "out", "(I)V"⟩, 13)]
theorem lw_r2 : ∀ q ∈ lw_privs_2, lw_okq q := List.forall_mem_cons.mpr ⟨lw_p16, fun _ h => absurd h List.not_mem_nil⟩
def lw_privs : List (MethodName × Nat) := lw_privs_1 ++ (lw_privs_2)
def lw_tbl : List Cond := k2_sels lw_privs ++ tables_1
theorem lw_privs_ok : ∀ q ∈ lw_privs, lw_okq q := by
  show ∀ q ∈ lw_privs_1 ++ (lw_privs_2), lw_okq q
  exact List.forall_mem_append.mpr ⟨lw_r1, lw_r2⟩
-- ===== ONE list of words for every method: the tables' words that hold all through a run =====
def lw_all : List Cond := lw_tbl.filter goodWord
/-- a word of the tables by its place: claim/WORDS.tsv -/
theorem lw_w {w : Cond} (i : Nat) (h : lw_tbl[i]? = some w) (g : goodWord w = true) : w ∈ lw_all := List.mem_filter.mpr ⟨List.mem_of_getElem? h, g⟩
theorem lw_all_tbl {w : Cond} (h : w ∈ lw_all) : w ∈ lw_tbl := (List.mem_filter.mp h).1
theorem lw_self : GoodIn lw_all lw_all := fun w h => ⟨h, good_of_word (List.mem_filter.mp h).2⟩
/-- a class's field words, by their places -/
theorem lw_in (ws : List Cond) (ps : List Nat) (hp : ws = ps.filterMap (fun i => lw_tbl[i]?)) (hg : ws.all goodWord = true) : ∀ w ∈ ws, w ∈ lw_all := by
  intro w h
  have h1 := List.all_eq_true.mp hg w h
  rw [hp] at h
  obtain ⟨i, -, hi⟩ := List.mem_filterMap.mp h
  exact lw_w i hi h1
/-- the words of a contract for the method y with code b, L locals, answer r -/
abbrev ws_ (y : MethodName) (b : ByteArray) (L : Nat) (r : Option FieldType) : List Cond := Cond.code y b L r :: lw_all
theorem lw_meth {y : MethodName} {b : ByteArray} {L : Nat} {r : Option FieldType} (h : Cond.code y b L r ∈ lw_all) : GoodIn lw_all (ws_ y b L r) := by
  intro w hw
  rcases List.mem_cons.mp hw with e | e
  · rw [e]
    exact lw_self _ h
  · exact lw_self _ e
theorem lw_app {a c : List Cond} (ha : ∀ w ∈ a, w ∈ lw_all) (hc : GoodIn lw_all c) : GoodIn lw_all (a ++ c) := by
  intro w hw
  rcases List.mem_append.mp hw with e | e
  · exact lw_self w (ha w e)
  · exact hc w e
/-- what a call through an object asks: cwV n hts (lw_V ..) -/
theorem lw_V {own : String} {idx : Nat} {C : String} {y : MethodName} {b : ByteArray} {L : Nat} {r : Option FieldType} (h1 : Cond.methodLink own idx y ∈ lw_all) (h2 : Cond.instanceMethod y ∈ lw_all) (h3 : Cond.selects C y y ∈ lw_all) (h4 : Cond.initialized C ∈ lw_all) (h5 : Cond.code y b L r ∈ lw_all) : GoodIn lw_all (wsV own idx C y (ws_ y b L r)) := by
  refine lw_app ?_ (lw_meth h5)
  intro w hw
  simp only [List.mem_cons, List.not_mem_nil, or_false] at hw
  rcases hw with e | e | e | e
  · rw [e]; exact h1
  · rw [e]; exact h2
  · rw [e]; exact h3
  · rw [e]; exact h4
/-- what a static call asks: va_cwS n hts (lw_S ..) -/
theorem lw_S {own : String} {idx : Nat} {y : MethodName} {b : ByteArray} {L : Nat} {r : Option FieldType} (h1 : Cond.methodLink own idx y ∈ lw_all) (h2 : Cond.static y ∈ lw_all) (h3 : Cond.initialized y.cls ∈ lw_all) (h4 : Cond.code y b L r ∈ lw_all) : GoodIn lw_all (va_wsS own idx y (ws_ y b L r)) := by
  refine lw_app ?_ (lw_meth h4)
  intro w hw
  simp only [List.mem_cons, List.not_mem_nil, or_false] at hw
  rcases hw with e | e | e
  · rw [e]; exact h1
  · rw [e]; exact h2
  · rw [e]; exact h3
/-- the words of a contract for a method WITH HANDLERS (hh: its table) -/
abbrev wsW_ (y : MethodName) (b : ByteArray) (L : Nat) (r : Option FieldType) (hh : List (Nat × Nat × Nat × Nat)) : List Cond := Cond.codeWith y b L r hh :: lw_all
theorem lw_methW {y : MethodName} {b : ByteArray} {L : Nat} {r : Option FieldType} {hh : List (Nat × Nat × Nat × Nat)} (h : Cond.codeWith y b L r hh ∈ lw_all) : GoodIn lw_all (wsW_ y b L r hh) := by
  intro w hw
  rcases List.mem_cons.mp hw with e | e
  · rw [e]
    exact lw_self _ h
  · exact lw_self _ e
/-- any list of words by their places (lw_in), good -/
theorem lw_good {ws : List Cond} (h : ∀ w ∈ ws, w ∈ lw_all) : GoodIn lw_all ws := fun w hw => lw_self w (h w hw)
/-- what a call of a method with handlers asks: vx_cwVW n hts (lw_VW ..), vx_cwSW n hts (lw_SW ..) -/
theorem lw_VW {own : String} {idx : Nat} {C : String} {y : MethodName} {b : ByteArray} {L : Nat} {r : Option FieldType} {hh : List (Nat × Nat × Nat × Nat)} (h1 : Cond.methodLink own idx y ∈ lw_all) (h2 : Cond.instanceMethod y ∈ lw_all) (h3 : Cond.selects C y y ∈ lw_all) (h4 : Cond.initialized C ∈ lw_all) (h5 : Cond.codeWith y b L r hh ∈ lw_all) : GoodIn lw_all (wsV own idx C y (wsW_ y b L r hh)) := by
  refine lw_app ?_ (lw_methW h5)
  intro w hw
  simp only [List.mem_cons, List.not_mem_nil, or_false] at hw
  rcases hw with e | e | e | e
  · rw [e]; exact h1
  · rw [e]; exact h2
  · rw [e]; exact h3
  · rw [e]; exact h4
theorem lw_SW {own : String} {idx : Nat} {y : MethodName} {b : ByteArray} {L : Nat} {r : Option FieldType} {hh : List (Nat × Nat × Nat × Nat)} (h1 : Cond.methodLink own idx y ∈ lw_all) (h2 : Cond.static y ∈ lw_all) (h3 : Cond.initialized y.cls ∈ lw_all) (h4 : Cond.codeWith y b L r hh ∈ lw_all) : GoodIn lw_all (va_wsS own idx y (wsW_ y b L r hh)) := by
  refine lw_app ?_ (lw_methW h4)
  intro w hw
  simp only [List.mem_cons, List.not_mem_nil, or_false] at hw
  rcases hw with e | e | e
  · rw [e]; exact h1
  · rw [e]; exact h2
  · rw [e]; exact h3
/-- a word by its place in its run of the tables -/
theorem lw_at {r : List Cond} (hr : ∀ w ∈ r, w ∈ lw_tbl) {w : Cond} (i : Nat) (h : r[i]? = some w) : w ∈ lw_tbl := hr w (List.mem_of_getElem? h)
theorem lw_g {w : Cond} (h : w ∈ lw_tbl) (g : goodWord w = true) : w ∈ lw_all := List.mem_filter.mpr ⟨h, g⟩
theorem lw_ms : ∀ w ∈ k2_sels lw_privs, w ∈ lw_tbl := fun w h => show w ∈ k2_sels lw_privs ++ tables_1 from List.mem_append_left _ h
theorem lw_m1 : ∀ w ∈ tables_1_1, w ∈ lw_tbl := fun w h => show w ∈ k2_sels lw_privs ++ tables_1 from List.mem_append_right (k2_sels lw_privs) (show w ∈ tables_1 from List.mem_append_left _ h)
theorem lw_m2 : ∀ w ∈ tables_1_2, w ∈ lw_tbl := fun w h => show w ∈ k2_sels lw_privs ++ tables_1 from List.mem_append_right (k2_sels lw_privs) (show w ∈ tables_1 from List.mem_append_right _ h)
theorem qs0 : (Cond.selects "RelooperRun" ⟨"RelooperRun", "setEnd", "(IIII)V"⟩ ⟨"RelooperRun", "setEnd", "(IIII)V"⟩) ∈ lw_all := lw_g (lw_at lw_ms 0 rfl) rfl
theorem qs1 : (Cond.selects "RelooperRun" ⟨"RelooperRun", "prepare", "()V"⟩ ⟨"RelooperRun", "prepare", "()V"⟩) ∈ lw_all := lw_g (lw_at lw_ms 1 rfl) rfl
theorem qs2 : (Cond.selects "RelooperRun" ⟨"RelooperRun", "orderBlocks", "()V"⟩ ⟨"RelooperRun", "orderBlocks", "()V"⟩) ∈ lw_all := lw_g (lw_at lw_ms 2 rfl) rfl
theorem qs3 : (Cond.selects "RelooperRun" ⟨"RelooperRun", "findLoops", "()V"⟩ ⟨"RelooperRun", "findLoops", "()V"⟩) ∈ lw_all := lw_g (lw_at lw_ms 3 rfl) rfl
theorem qs4 : (Cond.selects "RelooperRun" ⟨"RelooperRun", "addLoop", "(II)V"⟩ ⟨"RelooperRun", "addLoop", "(II)V"⟩) ∈ lw_all := lw_g (lw_at lw_ms 4 rfl) rfl
theorem qs5 : (Cond.selects "RelooperRun" ⟨"RelooperRun", "widenOnce", "()Z"⟩ ⟨"RelooperRun", "widenOnce", "()Z"⟩) ∈ lw_all := lw_g (lw_at lw_ms 5 rfl) rfl
theorem qs6 : (Cond.selects "RelooperRun" ⟨"RelooperRun", "emit", "()V"⟩ ⟨"RelooperRun", "emit", "()V"⟩) ∈ lw_all := lw_g (lw_at lw_ms 6 rfl) rfl
theorem qs7 : (Cond.selects "RelooperRun" ⟨"RelooperRun", "put", "(II)V"⟩ ⟨"RelooperRun", "put", "(II)V"⟩) ∈ lw_all := lw_g (lw_at lw_ms 7 rfl) rfl
theorem qs8 : (Cond.selects "RelooperRun" ⟨"RelooperRun", "endLoop", "(II)V"⟩ ⟨"RelooperRun", "endLoop", "(II)V"⟩) ∈ lw_all := lw_g (lw_at lw_ms 8 rfl) rfl
theorem qs9 : (Cond.selects "RelooperRun" ⟨"RelooperRun", "perform", "(II)I"⟩ ⟨"RelooperRun", "perform", "(II)I"⟩) ∈ lw_all := lw_g (lw_at lw_ms 9 rfl) rfl
theorem qs10 : (Cond.selects "RelooperRun" ⟨"RelooperRun", "enter", "(I)V"⟩ ⟨"RelooperRun", "enter", "(I)V"⟩) ∈ lw_all := lw_g (lw_at lw_ms 10 rfl) rfl
theorem qs11 : (Cond.selects "RelooperRun" ⟨"RelooperRun", "carryOut", "(I)V"⟩ ⟨"RelooperRun", "carryOut", "(I)V"⟩) ∈ lw_all := lw_g (lw_at lw_ms 11 rfl) rfl
theorem qs12 : (Cond.selects "RelooperRunModel" ⟨"RelooperRunModel", "bad", "(I)Z"⟩ ⟨"RelooperRunModel", "bad", "(I)Z"⟩) ∈ lw_all := lw_g (lw_at lw_ms 12 rfl) rfl
theorem qs13 : (Cond.selects "RelooperRunModel" ⟨"RelooperRunModel", "badVariable", "(I)Z"⟩ ⟨"RelooperRunModel", "badVariable", "(I)Z"⟩) ∈ lw_all := lw_g (lw_at lw_ms 13 rfl) rfl
theorem qs14 : (Cond.selects "RelooperRunModel" ⟨"RelooperRunModel", "enter", "(I)V"⟩ ⟨"RelooperRunModel", "enter", "(I)V"⟩) ∈ lw_all := lw_g (lw_at lw_ms 14 rfl) rfl
theorem qs15 : (Cond.selects "RelooperRunModel" ⟨"RelooperRunModel", "carryOut", "(I)V"⟩ ⟨"RelooperRunModel", "carryOut", "(I)V"⟩) ∈ lw_all := lw_g (lw_at lw_ms 15 rfl) rfl
theorem qs16 : (Cond.selects "RelooperRunModel" ⟨"RelooperRunModel", "out", "(I)V"⟩ ⟨"RelooperRunModel", "out", "(I)V"⟩) ∈ lw_all := lw_g (lw_at lw_ms 16 rfl) rfl
end
section
/-! RelooperRun -/
set_option maxRecDepth 100000
def RX0 : String := "RelooperRun"
def TX0 : u_T := fun k => match k with
  | 0 => ("RelooperRun", "size", "[I", true)
  | 1 => ("RelooperRun", "op", "[I", true)
  | 2 => ("RelooperRun", "target", "[I", true)
  | 3 => ("RelooperRun", "operand", "[I", true)
  | 4 => ("RelooperRun", "test", "[I", true)
  | 5 => ("RelooperRun", "first", "[I", true)
  | 6 => ("RelooperRun", "second", "[I", true)
  | 7 => ("RelooperRun", "ready", "Z", false)
  | 8 => ("RelooperRun", "count", "I", false)
  | 9 => ("RelooperRun", "order", "[I", true)
  | 10 => ("RelooperRun", "place", "[I", true)
  | 11 => ("RelooperRun", "walkStack", "[I", true)
  | 12 => ("RelooperRun", "walkSide", "[I", true)
  | 13 => ("RelooperRun", "loops", "I", false)
  | 14 => ("RelooperRun", "from", "[I", true)
  | 15 => ("RelooperRun", "to", "[I", true)
  | 16 => ("RelooperRun", "length", "I", false)
  | 17 => ("RelooperRun", "word", "[I", true)
  | 18 => ("RelooperRun", "with", "[I", true)
  | 19 => ("RelooperRun", "loopStart", "[I", true)
  | 20 => ("RelooperRun", "var", "[I", true)
  | 21 => ("RelooperRun", "label", "I", false)
  | 22 => ("RelooperRun", "entered", "I", false)
  | 23 => ("RelooperRun", "ended", "I", false)
  | 24 => ("RelooperRun", "seen", "[I", true)
  | 25 => ("RelooperRun", "written", "I", false)
  | _ => ("RelooperRun", "lastOut", "[I", true)
def tyX0 : Nat → FieldType := fun k => match k with
  | 0 => .array .int
  | 1 => .array .int
  | 2 => .array .int
  | 3 => .array .int
  | 4 => .array .int
  | 5 => .array .int
  | 6 => .array .int
  | 7 => .boolean
  | 8 => .int
  | 9 => .array .int
  | 10 => .array .int
  | 11 => .array .int
  | 12 => .array .int
  | 13 => .int
  | 14 => .array .int
  | 15 => .array .int
  | 16 => .int
  | 17 => .array .int
  | 18 => .array .int
  | 19 => .array .int
  | 20 => .array .int
  | 21 => .int
  | 22 => .int
  | 23 => .int
  | 24 => .array .int
  | 25 => .int
  | _ => .array .int
abbrev wsX00 : List Cond := u_ws RX0 TX0 27
set_option maxRecDepth 100000 in
theorem nmX0 : ∀ a, a < 27 → ∀ b, b < 27 → a ≠ b → (TX0 a).2.1 ≠ (TX0 b).2.1 := by decide +kernel
set_option maxRecDepth 100000 in
theorem tyX0_ok : ∀ k, k < 27 → parseFieldDescriptor (TX0 k).2.2.1 = some (tyX0 k) := by decide +kernel
abbrev cX0_init : ByteArray := prog_1_method_1_code
def yX0_init : MethodName := ⟨RX0, "<init>", "()V"⟩
abbrev cX0_assign : ByteArray := prog_1_method_4_code
def yX0_assign : MethodName := ⟨RX0, "assign", "(IIII)I"⟩
abbrev cX0_bad : ByteArray := prog_1_method_2_code
def yX0_bad : MethodName := ⟨RX0, "bad", "(I)Z"⟩
abbrev cX0_badVar : ByteArray := prog_1_method_3_code
def yX0_badVar : MethodName := ⟨RX0, "badVar", "(I)Z"⟩
abbrev cX0_empty : ByteArray := prog_1_method_5_code
def yX0_empty : MethodName := ⟨RX0, "empty", "(I)I"⟩
abbrev cX0_stop : ByteArray := prog_1_method_7_code
def yX0_stop : MethodName := ⟨RX0, "stop", "(I)I"⟩
abbrev cX0_setEnd : ByteArray := prog_1_method_6_code
def yX0_setEnd : MethodName := ⟨RX0, "setEnd", "(IIII)V"⟩
abbrev cX0_go : ByteArray := prog_1_method_8_code
def yX0_go : MethodName := ⟨RX0, "go", "(II)I"⟩
abbrev cX0_branch : ByteArray := prog_1_method_9_code
def yX0_branch : MethodName := ⟨RX0, "branch", "(IIII)I"⟩
abbrev cX0_set : ByteArray := prog_1_method_10_code
def yX0_set : MethodName := ⟨RX0, "set", "(II)I"⟩
abbrev cX0_run : ByteArray := prog_1_method_22_code
def yX0_run : MethodName := ⟨RX0, "run", "()I"⟩
abbrev cX0_prepare : ByteArray := prog_1_method_18_code
def yX0_prepare : MethodName := ⟨RX0, "prepare", "()V"⟩
abbrev cX0_orderBlocks : ByteArray := prog_1_method_11_code
def yX0_orderBlocks : MethodName := ⟨RX0, "orderBlocks", "()V"⟩
abbrev cX0_findLoops : ByteArray := prog_1_method_13_code
def yX0_findLoops : MethodName := ⟨RX0, "findLoops", "()V"⟩
abbrev cX0_addLoop : ByteArray := prog_1_method_12_code
def yX0_addLoop : MethodName := ⟨RX0, "addLoop", "(II)V"⟩
abbrev cX0_widenOnce : ByteArray := prog_1_method_14_code
def yX0_widenOnce : MethodName := ⟨RX0, "widenOnce", "()Z"⟩
abbrev cX0_emit : ByteArray := prog_1_method_16_code
def yX0_emit : MethodName := ⟨RX0, "emit", "()V"⟩
abbrev cX0_put : ByteArray := prog_1_method_15_code
def yX0_put : MethodName := ⟨RX0, "put", "(II)V"⟩
abbrev cX0_endLoop : ByteArray := prog_1_method_17_code
def yX0_endLoop : MethodName := ⟨RX0, "endLoop", "(II)V"⟩
abbrev cX0_perform : ByteArray := prog_1_method_21_code
def yX0_perform : MethodName := ⟨RX0, "perform", "(II)I"⟩
abbrev cX0_enter : ByteArray := prog_1_method_20_code
def yX0_enter : MethodName := ⟨RX0, "enter", "(I)V"⟩
abbrev cX0_carryOut : ByteArray := prog_1_method_19_code
def yX0_carryOut : MethodName := ⟨RX0, "carryOut", "(I)V"⟩
abbrev cX0_get : ByteArray := prog_1_method_23_code
def yX0_get : MethodName := ⟨RX0, "get", "(I)I"⟩
abbrev cX0_outputs : ByteArray := prog_1_method_24_code
def yX0_outputs : MethodName := ⟨RX0, "outputs", "()I"⟩
abbrev cX0_output : ByteArray := prog_1_method_25_code
def yX0_output : MethodName := ⟨RX0, "output", "(I)I"⟩
abbrev cX0_visits : ByteArray := prog_1_method_26_code
def yX0_visits : MethodName := ⟨RX0, "visits", "(I)I"⟩
abbrev cX0_last : ByteArray := prog_1_method_27_code
def yX0_last : MethodName := ⟨RX0, "last", "()I"⟩
abbrev cX0_reachable : ByteArray := prog_1_method_28_code
def yX0_reachable : MethodName := ⟨RX0, "reachable", "()I"⟩
theorem q18 : (Jvm.Cond.initialized "RelooperRun") ∈ lw_all := lw_g (lw_at lw_m1 1 rfl) rfl
theorem q21 : (Jvm.Cond.instantiable "RelooperRun" (27 : Nat)) ∈ lw_all := lw_g (lw_at lw_m1 4 rfl) rfl
theorem q23 : (Jvm.Cond.instanceMethod ({ cls := "RelooperRun", name := "<init>", desc := "()V" } : Jvm.MethodName)) ∈ lw_all := lw_g (lw_at lw_m1 6 rfl) rfl
theorem q24 : (Jvm.Cond.code ({ cls := "RelooperRun", name := "<init>", desc := "()V" } : Jvm.MethodName) prog_1_method_1_code (2 : Nat) (Option.none : Option Jvm.ClassFile.FieldType)) ∈ lw_all := lw_g (lw_at lw_m1 7 rfl) rfl
theorem q25 : (Jvm.Cond.methodLink "RelooperRun" (1 : Nat) ({ cls := "java/lang/Object", name := "<init>", desc := "()V" } : Jvm.MethodName)) ∈ lw_all := lw_g (lw_at lw_m1 8 rfl) rfl
theorem q28 : (Jvm.Cond.fieldLink "RelooperRun" (7 : Nat) "RelooperRun" "size" "[I") ∈ lw_all := lw_g (lw_at lw_m1 11 rfl) rfl
theorem q29 : (Jvm.Cond.fieldLink "RelooperRun" (13 : Nat) "RelooperRun" "op" "[I") ∈ lw_all := lw_g (lw_at lw_m1 12 rfl) rfl
theorem q30 : (Jvm.Cond.fieldLink "RelooperRun" (16 : Nat) "RelooperRun" "target" "[I") ∈ lw_all := lw_g (lw_at lw_m1 13 rfl) rfl
theorem q31 : (Jvm.Cond.fieldLink "RelooperRun" (19 : Nat) "RelooperRun" "operand" "[I") ∈ lw_all := lw_g (lw_at lw_m1 14 rfl) rfl
theorem q32 : (Jvm.Cond.fieldLink "RelooperRun" (22 : Nat) "RelooperRun" "test" "[I") ∈ lw_all := lw_g (lw_at lw_m1 15 rfl) rfl
theorem q33 : (Jvm.Cond.fieldLink "RelooperRun" (25 : Nat) "RelooperRun" "first" "[I") ∈ lw_all := lw_g (lw_at lw_m1 16 rfl) rfl
theorem q34 : (Jvm.Cond.fieldLink "RelooperRun" (28 : Nat) "RelooperRun" "second" "[I") ∈ lw_all := lw_g (lw_at lw_m1 17 rfl) rfl
theorem q35 : (Jvm.Cond.fieldLink "RelooperRun" (78 : Nat) "RelooperRun" "ready" "Z") ∈ lw_all := lw_g (lw_at lw_m1 18 rfl) rfl
theorem q36 : (Jvm.Cond.fieldLink "RelooperRun" (86 : Nat) "RelooperRun" "count" "I") ∈ lw_all := lw_g (lw_at lw_m1 19 rfl) rfl
theorem q37 : (Jvm.Cond.fieldLink "RelooperRun" (31 : Nat) "RelooperRun" "order" "[I") ∈ lw_all := lw_g (lw_at lw_m1 20 rfl) rfl
theorem q38 : (Jvm.Cond.fieldLink "RelooperRun" (34 : Nat) "RelooperRun" "place" "[I") ∈ lw_all := lw_g (lw_at lw_m1 21 rfl) rfl
theorem q39 : (Jvm.Cond.fieldLink "RelooperRun" (37 : Nat) "RelooperRun" "walkStack" "[I") ∈ lw_all := lw_g (lw_at lw_m1 22 rfl) rfl
theorem q40 : (Jvm.Cond.fieldLink "RelooperRun" (40 : Nat) "RelooperRun" "walkSide" "[I") ∈ lw_all := lw_g (lw_at lw_m1 23 rfl) rfl
theorem q41 : (Jvm.Cond.fieldLink "RelooperRun" (89 : Nat) "RelooperRun" "loops" "I") ∈ lw_all := lw_g (lw_at lw_m1 24 rfl) rfl
theorem q42 : (Jvm.Cond.fieldLink "RelooperRun" (43 : Nat) "RelooperRun" "from" "[I") ∈ lw_all := lw_g (lw_at lw_m1 25 rfl) rfl
theorem q43 : (Jvm.Cond.fieldLink "RelooperRun" (46 : Nat) "RelooperRun" "to" "[I") ∈ lw_all := lw_g (lw_at lw_m1 26 rfl) rfl
theorem q44 : (Jvm.Cond.fieldLink "RelooperRun" (96 : Nat) "RelooperRun" "length" "I") ∈ lw_all := lw_g (lw_at lw_m1 27 rfl) rfl
theorem q45 : (Jvm.Cond.fieldLink "RelooperRun" (49 : Nat) "RelooperRun" "word" "[I") ∈ lw_all := lw_g (lw_at lw_m1 28 rfl) rfl
theorem q46 : (Jvm.Cond.fieldLink "RelooperRun" (52 : Nat) "RelooperRun" "with" "[I") ∈ lw_all := lw_g (lw_at lw_m1 29 rfl) rfl
theorem q47 : (Jvm.Cond.fieldLink "RelooperRun" (55 : Nat) "RelooperRun" "loopStart" "[I") ∈ lw_all := lw_g (lw_at lw_m1 30 rfl) rfl
theorem q48 : (Jvm.Cond.fieldLink "RelooperRun" (58 : Nat) "RelooperRun" "var" "[I") ∈ lw_all := lw_g (lw_at lw_m1 31 rfl) rfl
theorem q49 : (Jvm.Cond.fieldLink "RelooperRun" (128 : Nat) "RelooperRun" "label" "I") ∈ lw_all := lw_g (lw_at lw_m1 32 rfl) rfl
theorem q50 : (Jvm.Cond.fieldLink "RelooperRun" (121 : Nat) "RelooperRun" "entered" "I") ∈ lw_all := lw_g (lw_at lw_m1 33 rfl) rfl
theorem q51 : (Jvm.Cond.fieldLink "RelooperRun" (67 : Nat) "RelooperRun" "ended" "I") ∈ lw_all := lw_g (lw_at lw_m1 34 rfl) rfl
theorem q52 : (Jvm.Cond.fieldLink "RelooperRun" (61 : Nat) "RelooperRun" "seen" "[I") ∈ lw_all := lw_g (lw_at lw_m1 35 rfl) rfl
theorem q53 : (Jvm.Cond.fieldLink "RelooperRun" (118 : Nat) "RelooperRun" "written" "I") ∈ lw_all := lw_g (lw_at lw_m1 36 rfl) rfl
theorem q54 : (Jvm.Cond.fieldLink "RelooperRun" (64 : Nat) "RelooperRun" "lastOut" "[I") ∈ lw_all := lw_g (lw_at lw_m1 37 rfl) rfl
theorem q55 : (Jvm.Cond.laysFinal "RelooperRun" "RelooperRun" "size" "[I") ∈ lw_all := lw_g (lw_at lw_m1 38 rfl) rfl
theorem q56 : (Jvm.Cond.soleField "RelooperRun" "size") ∈ lw_all := lw_g (lw_at lw_m1 39 rfl) rfl
theorem q57 : (Jvm.Cond.laysFinal "RelooperRun" "RelooperRun" "op" "[I") ∈ lw_all := lw_g (lw_at lw_m1 40 rfl) rfl
theorem q58 : (Jvm.Cond.soleField "RelooperRun" "op") ∈ lw_all := lw_g (lw_at lw_m1 41 rfl) rfl
theorem q59 : (Jvm.Cond.laysFinal "RelooperRun" "RelooperRun" "target" "[I") ∈ lw_all := lw_g (lw_at lw_m1 42 rfl) rfl
theorem q60 : (Jvm.Cond.soleField "RelooperRun" "target") ∈ lw_all := lw_g (lw_at lw_m1 43 rfl) rfl
theorem q61 : (Jvm.Cond.laysFinal "RelooperRun" "RelooperRun" "operand" "[I") ∈ lw_all := lw_g (lw_at lw_m1 44 rfl) rfl
theorem q62 : (Jvm.Cond.soleField "RelooperRun" "operand") ∈ lw_all := lw_g (lw_at lw_m1 45 rfl) rfl
theorem q63 : (Jvm.Cond.laysFinal "RelooperRun" "RelooperRun" "test" "[I") ∈ lw_all := lw_g (lw_at lw_m1 46 rfl) rfl
theorem q64 : (Jvm.Cond.soleField "RelooperRun" "test") ∈ lw_all := lw_g (lw_at lw_m1 47 rfl) rfl
theorem q65 : (Jvm.Cond.laysFinal "RelooperRun" "RelooperRun" "first" "[I") ∈ lw_all := lw_g (lw_at lw_m1 48 rfl) rfl
theorem q66 : (Jvm.Cond.soleField "RelooperRun" "first") ∈ lw_all := lw_g (lw_at lw_m1 49 rfl) rfl
theorem q67 : (Jvm.Cond.laysFinal "RelooperRun" "RelooperRun" "second" "[I") ∈ lw_all := lw_g (lw_at lw_m1 50 rfl) rfl
theorem q68 : (Jvm.Cond.soleField "RelooperRun" "second") ∈ lw_all := lw_g (lw_at lw_m1 51 rfl) rfl
theorem q69 : (Jvm.Cond.lays "RelooperRun" "RelooperRun" "ready" "Z") ∈ lw_all := lw_g (lw_at lw_m1 52 rfl) rfl
theorem q70 : (Jvm.Cond.soleField "RelooperRun" "ready") ∈ lw_all := lw_g (lw_at lw_m1 53 rfl) rfl
theorem q71 : (Jvm.Cond.lays "RelooperRun" "RelooperRun" "count" "I") ∈ lw_all := lw_g (lw_at lw_m1 54 rfl) rfl
theorem q72 : (Jvm.Cond.soleField "RelooperRun" "count") ∈ lw_all := lw_g (lw_at lw_m1 55 rfl) rfl
theorem q73 : (Jvm.Cond.laysFinal "RelooperRun" "RelooperRun" "order" "[I") ∈ lw_all := lw_g (lw_at lw_m1 56 rfl) rfl
theorem q74 : (Jvm.Cond.soleField "RelooperRun" "order") ∈ lw_all := lw_g (lw_at lw_m1 57 rfl) rfl
theorem q75 : (Jvm.Cond.laysFinal "RelooperRun" "RelooperRun" "place" "[I") ∈ lw_all := lw_g (lw_at lw_m1 58 rfl) rfl
theorem q76 : (Jvm.Cond.soleField "RelooperRun" "place") ∈ lw_all := lw_g (lw_at lw_m1 59 rfl) rfl
theorem q77 : (Jvm.Cond.laysFinal "RelooperRun" "RelooperRun" "walkStack" "[I") ∈ lw_all := lw_g (lw_at lw_m1 60 rfl) rfl
theorem q78 : (Jvm.Cond.soleField "RelooperRun" "walkStack") ∈ lw_all := lw_g (lw_at lw_m1 61 rfl) rfl
theorem q79 : (Jvm.Cond.laysFinal "RelooperRun" "RelooperRun" "walkSide" "[I") ∈ lw_all := lw_g (lw_at lw_m1 62 rfl) rfl
theorem q80 : (Jvm.Cond.soleField "RelooperRun" "walkSide") ∈ lw_all := lw_g (lw_at lw_m1 63 rfl) rfl
theorem q81 : (Jvm.Cond.lays "RelooperRun" "RelooperRun" "loops" "I") ∈ lw_all := lw_g (lw_at lw_m1 64 rfl) rfl
theorem q82 : (Jvm.Cond.soleField "RelooperRun" "loops") ∈ lw_all := lw_g (lw_at lw_m1 65 rfl) rfl
theorem q83 : (Jvm.Cond.laysFinal "RelooperRun" "RelooperRun" "from" "[I") ∈ lw_all := lw_g (lw_at lw_m1 66 rfl) rfl
theorem q84 : (Jvm.Cond.soleField "RelooperRun" "from") ∈ lw_all := lw_g (lw_at lw_m1 67 rfl) rfl
theorem q85 : (Jvm.Cond.laysFinal "RelooperRun" "RelooperRun" "to" "[I") ∈ lw_all := lw_g (lw_at lw_m1 68 rfl) rfl
theorem q86 : (Jvm.Cond.soleField "RelooperRun" "to") ∈ lw_all := lw_g (lw_at lw_m1 69 rfl) rfl
theorem q87 : (Jvm.Cond.lays "RelooperRun" "RelooperRun" "length" "I") ∈ lw_all := lw_g (lw_at lw_m1 70 rfl) rfl
theorem q88 : (Jvm.Cond.soleField "RelooperRun" "length") ∈ lw_all := lw_g (lw_at lw_m1 71 rfl) rfl
theorem q89 : (Jvm.Cond.laysFinal "RelooperRun" "RelooperRun" "word" "[I") ∈ lw_all := lw_g (lw_at lw_m1 72 rfl) rfl
theorem q90 : (Jvm.Cond.soleField "RelooperRun" "word") ∈ lw_all := lw_g (lw_at lw_m1 73 rfl) rfl
theorem q91 : (Jvm.Cond.laysFinal "RelooperRun" "RelooperRun" "with" "[I") ∈ lw_all := lw_g (lw_at lw_m1 74 rfl) rfl
theorem q92 : (Jvm.Cond.soleField "RelooperRun" "with") ∈ lw_all := lw_g (lw_at lw_m1 75 rfl) rfl
theorem q93 : (Jvm.Cond.laysFinal "RelooperRun" "RelooperRun" "loopStart" "[I") ∈ lw_all := lw_g (lw_at lw_m1 76 rfl) rfl
theorem q94 : (Jvm.Cond.soleField "RelooperRun" "loopStart") ∈ lw_all := lw_g (lw_at lw_m1 77 rfl) rfl
theorem q95 : (Jvm.Cond.laysFinal "RelooperRun" "RelooperRun" "var" "[I") ∈ lw_all := lw_g (lw_at lw_m1 78 rfl) rfl
theorem q96 : (Jvm.Cond.soleField "RelooperRun" "var") ∈ lw_all := lw_g (lw_at lw_m1 79 rfl) rfl
theorem q97 : (Jvm.Cond.lays "RelooperRun" "RelooperRun" "label" "I") ∈ lw_all := lw_g (lw_at lw_m1 80 rfl) rfl
theorem q98 : (Jvm.Cond.soleField "RelooperRun" "label") ∈ lw_all := lw_g (lw_at lw_m1 81 rfl) rfl
theorem q99 : (Jvm.Cond.lays "RelooperRun" "RelooperRun" "entered" "I") ∈ lw_all := lw_g (lw_at lw_m1 82 rfl) rfl
theorem q100 : (Jvm.Cond.soleField "RelooperRun" "entered") ∈ lw_all := lw_g (lw_at lw_m1 83 rfl) rfl
theorem q101 : (Jvm.Cond.lays "RelooperRun" "RelooperRun" "ended" "I") ∈ lw_all := lw_g (lw_at lw_m1 84 rfl) rfl
theorem q102 : (Jvm.Cond.soleField "RelooperRun" "ended") ∈ lw_all := lw_g (lw_at lw_m1 85 rfl) rfl
theorem q103 : (Jvm.Cond.laysFinal "RelooperRun" "RelooperRun" "seen" "[I") ∈ lw_all := lw_g (lw_at lw_m1 86 rfl) rfl
theorem q104 : (Jvm.Cond.soleField "RelooperRun" "seen") ∈ lw_all := lw_g (lw_at lw_m1 87 rfl) rfl
theorem q105 : (Jvm.Cond.lays "RelooperRun" "RelooperRun" "written" "I") ∈ lw_all := lw_g (lw_at lw_m1 88 rfl) rfl
theorem q106 : (Jvm.Cond.soleField "RelooperRun" "written") ∈ lw_all := lw_g (lw_at lw_m1 89 rfl) rfl
theorem q107 : (Jvm.Cond.laysFinal "RelooperRun" "RelooperRun" "lastOut" "[I") ∈ lw_all := lw_g (lw_at lw_m1 90 rfl) rfl
theorem q108 : (Jvm.Cond.soleField "RelooperRun" "lastOut") ∈ lw_all := lw_g (lw_at lw_m1 91 rfl) rfl
theorem q109 : (Jvm.Cond.superclass "RelooperRun" "java/lang/Object") ∈ lw_all := lw_g (lw_at lw_m1 92 rfl) rfl
theorem q112 : (Jvm.Cond.instanceMethod ({ cls := "RelooperRun", name := "assign", desc := "(IIII)I" } : Jvm.MethodName)) ∈ lw_all := lw_g (lw_at lw_m1 95 rfl) rfl
theorem q113 : (Jvm.Cond.selects "RelooperRun" ({ cls := "RelooperRun", name := "assign", desc := "(IIII)I" } : Jvm.MethodName) ({ cls := "RelooperRun", name := "assign", desc := "(IIII)I" } : Jvm.MethodName)) ∈ lw_all := lw_g (lw_at lw_m1 96 rfl) rfl
theorem q114 : (Jvm.Cond.code ({ cls := "RelooperRun", name := "assign", desc := "(IIII)I" } : Jvm.MethodName) prog_1_method_4_code (6 : Nat) (Option.some Jvm.ClassFile.FieldType.int)) ∈ lw_all := lw_g (lw_at lw_m1 97 rfl) rfl
theorem q115 : (Jvm.Cond.methodLink "RelooperRun" (71 : Nat) ({ cls := "RelooperRun", name := "bad", desc := "(I)Z" } : Jvm.MethodName)) ∈ lw_all := lw_g (lw_at lw_m1 98 rfl) rfl
theorem q116 : (Jvm.Cond.static ({ cls := "RelooperRun", name := "bad", desc := "(I)Z" } : Jvm.MethodName)) ∈ lw_all := lw_g (lw_at lw_m1 99 rfl) rfl
theorem q117 : (Jvm.Cond.code ({ cls := "RelooperRun", name := "bad", desc := "(I)Z" } : Jvm.MethodName) prog_1_method_2_code (1 : Nat) (Option.some Jvm.ClassFile.FieldType.boolean)) ∈ lw_all := lw_g (lw_at lw_m1 100 rfl) rfl
theorem q118 : (Jvm.Cond.methodLink "RelooperRun" (75 : Nat) ({ cls := "RelooperRun", name := "badVar", desc := "(I)Z" } : Jvm.MethodName)) ∈ lw_all := lw_g (lw_at lw_m1 101 rfl) rfl
theorem q119 : (Jvm.Cond.static ({ cls := "RelooperRun", name := "badVar", desc := "(I)Z" } : Jvm.MethodName)) ∈ lw_all := lw_g (lw_at lw_m1 102 rfl) rfl
theorem q120 : (Jvm.Cond.code ({ cls := "RelooperRun", name := "badVar", desc := "(I)Z" } : Jvm.MethodName) prog_1_method_3_code (1 : Nat) (Option.some Jvm.ClassFile.FieldType.boolean)) ∈ lw_all := lw_g (lw_at lw_m1 103 rfl) rfl
theorem q122 : (Jvm.Cond.instanceMethod ({ cls := "RelooperRun", name := "empty", desc := "(I)I" } : Jvm.MethodName)) ∈ lw_all := lw_g (lw_at lw_m1 105 rfl) rfl
theorem q123 : (Jvm.Cond.selects "RelooperRun" ({ cls := "RelooperRun", name := "empty", desc := "(I)I" } : Jvm.MethodName) ({ cls := "RelooperRun", name := "empty", desc := "(I)I" } : Jvm.MethodName)) ∈ lw_all := lw_g (lw_at lw_m1 106 rfl) rfl
theorem q124 : (Jvm.Cond.code ({ cls := "RelooperRun", name := "empty", desc := "(I)I" } : Jvm.MethodName) prog_1_method_5_code (3 : Nat) (Option.some Jvm.ClassFile.FieldType.int)) ∈ lw_all := lw_g (lw_at lw_m1 107 rfl) rfl
theorem q126 : (Jvm.Cond.instanceMethod ({ cls := "RelooperRun", name := "stop", desc := "(I)I" } : Jvm.MethodName)) ∈ lw_all := lw_g (lw_at lw_m1 109 rfl) rfl
theorem q127 : (Jvm.Cond.selects "RelooperRun" ({ cls := "RelooperRun", name := "stop", desc := "(I)I" } : Jvm.MethodName) ({ cls := "RelooperRun", name := "stop", desc := "(I)I" } : Jvm.MethodName)) ∈ lw_all := lw_g (lw_at lw_m1 110 rfl) rfl
theorem q128 : (Jvm.Cond.code ({ cls := "RelooperRun", name := "stop", desc := "(I)I" } : Jvm.MethodName) prog_1_method_7_code (2 : Nat) (Option.some Jvm.ClassFile.FieldType.int)) ∈ lw_all := lw_g (lw_at lw_m1 111 rfl) rfl
theorem q129 : (Jvm.Cond.methodLink "RelooperRun" (82 : Nat) ({ cls := "RelooperRun", name := "setEnd", desc := "(IIII)V" } : Jvm.MethodName)) ∈ lw_all := lw_g (lw_at lw_m1 112 rfl) rfl
theorem q130 : (Jvm.Cond.privateMethod ({ cls := "RelooperRun", name := "setEnd", desc := "(IIII)V" } : Jvm.MethodName)) ∈ lw_tbl := lw_at lw_m1 113 rfl
theorem q131 : (Jvm.Cond.instanceMethod ({ cls := "RelooperRun", name := "setEnd", desc := "(IIII)V" } : Jvm.MethodName)) ∈ lw_all := lw_g (lw_at lw_m1 114 rfl) rfl
theorem q132 : (Jvm.Cond.code ({ cls := "RelooperRun", name := "setEnd", desc := "(IIII)V" } : Jvm.MethodName) prog_1_method_6_code (5 : Nat) (Option.none : Option Jvm.ClassFile.FieldType)) ∈ lw_all := lw_g (lw_at lw_m1 115 rfl) rfl
theorem q134 : (Jvm.Cond.instanceMethod ({ cls := "RelooperRun", name := "go", desc := "(II)I" } : Jvm.MethodName)) ∈ lw_all := lw_g (lw_at lw_m1 117 rfl) rfl
theorem q135 : (Jvm.Cond.selects "RelooperRun" ({ cls := "RelooperRun", name := "go", desc := "(II)I" } : Jvm.MethodName) ({ cls := "RelooperRun", name := "go", desc := "(II)I" } : Jvm.MethodName)) ∈ lw_all := lw_g (lw_at lw_m1 118 rfl) rfl
theorem q136 : (Jvm.Cond.code ({ cls := "RelooperRun", name := "go", desc := "(II)I" } : Jvm.MethodName) prog_1_method_8_code (3 : Nat) (Option.some Jvm.ClassFile.FieldType.int)) ∈ lw_all := lw_g (lw_at lw_m1 119 rfl) rfl
theorem q138 : (Jvm.Cond.instanceMethod ({ cls := "RelooperRun", name := "branch", desc := "(IIII)I" } : Jvm.MethodName)) ∈ lw_all := lw_g (lw_at lw_m1 121 rfl) rfl
theorem q139 : (Jvm.Cond.selects "RelooperRun" ({ cls := "RelooperRun", name := "branch", desc := "(IIII)I" } : Jvm.MethodName) ({ cls := "RelooperRun", name := "branch", desc := "(IIII)I" } : Jvm.MethodName)) ∈ lw_all := lw_g (lw_at lw_m1 122 rfl) rfl
theorem q140 : (Jvm.Cond.code ({ cls := "RelooperRun", name := "branch", desc := "(IIII)I" } : Jvm.MethodName) prog_1_method_9_code (5 : Nat) (Option.some Jvm.ClassFile.FieldType.int)) ∈ lw_all := lw_g (lw_at lw_m1 123 rfl) rfl
theorem q142 : (Jvm.Cond.instanceMethod ({ cls := "RelooperRun", name := "set", desc := "(II)I" } : Jvm.MethodName)) ∈ lw_all := lw_g (lw_at lw_m1 125 rfl) rfl
theorem q143 : (Jvm.Cond.selects "RelooperRun" ({ cls := "RelooperRun", name := "set", desc := "(II)I" } : Jvm.MethodName) ({ cls := "RelooperRun", name := "set", desc := "(II)I" } : Jvm.MethodName)) ∈ lw_all := lw_g (lw_at lw_m1 126 rfl) rfl
theorem q144 : (Jvm.Cond.code ({ cls := "RelooperRun", name := "set", desc := "(II)I" } : Jvm.MethodName) prog_1_method_10_code (3 : Nat) (Option.some Jvm.ClassFile.FieldType.int)) ∈ lw_all := lw_g (lw_at lw_m1 127 rfl) rfl
theorem q146 : (Jvm.Cond.instanceMethod ({ cls := "RelooperRun", name := "run", desc := "()I" } : Jvm.MethodName)) ∈ lw_all := lw_g (lw_at lw_m1 129 rfl) rfl
theorem q147 : (Jvm.Cond.selects "RelooperRun" ({ cls := "RelooperRun", name := "run", desc := "()I" } : Jvm.MethodName) ({ cls := "RelooperRun", name := "run", desc := "()I" } : Jvm.MethodName)) ∈ lw_all := lw_g (lw_at lw_m1 130 rfl) rfl
theorem q148 : (Jvm.Cond.code ({ cls := "RelooperRun", name := "run", desc := "()I" } : Jvm.MethodName) prog_1_method_22_code (3 : Nat) (Option.some Jvm.ClassFile.FieldType.int)) ∈ lw_all := lw_g (lw_at lw_m1 131 rfl) rfl
theorem q149 : (Jvm.Cond.methodLink "RelooperRun" (134 : Nat) ({ cls := "RelooperRun", name := "prepare", desc := "()V" } : Jvm.MethodName)) ∈ lw_all := lw_g (lw_at lw_m1 132 rfl) rfl
theorem q150 : (Jvm.Cond.privateMethod ({ cls := "RelooperRun", name := "prepare", desc := "()V" } : Jvm.MethodName)) ∈ lw_tbl := lw_at lw_m1 133 rfl
theorem q151 : (Jvm.Cond.instanceMethod ({ cls := "RelooperRun", name := "prepare", desc := "()V" } : Jvm.MethodName)) ∈ lw_all := lw_g (lw_at lw_m1 134 rfl) rfl
theorem q152 : (Jvm.Cond.code ({ cls := "RelooperRun", name := "prepare", desc := "()V" } : Jvm.MethodName) prog_1_method_18_code (3 : Nat) (Option.none : Option Jvm.ClassFile.FieldType)) ∈ lw_all := lw_g (lw_at lw_m1 135 rfl) rfl
theorem q153 : (Jvm.Cond.methodLink "RelooperRun" (105 : Nat) ({ cls := "RelooperRun", name := "orderBlocks", desc := "()V" } : Jvm.MethodName)) ∈ lw_all := lw_g (lw_at lw_m1 136 rfl) rfl
theorem q154 : (Jvm.Cond.privateMethod ({ cls := "RelooperRun", name := "orderBlocks", desc := "()V" } : Jvm.MethodName)) ∈ lw_tbl := lw_at lw_m1 137 rfl
theorem q155 : (Jvm.Cond.instanceMethod ({ cls := "RelooperRun", name := "orderBlocks", desc := "()V" } : Jvm.MethodName)) ∈ lw_all := lw_g (lw_at lw_m1 138 rfl) rfl
theorem q156 : (Jvm.Cond.code ({ cls := "RelooperRun", name := "orderBlocks", desc := "()V" } : Jvm.MethodName) prog_1_method_11_code (8 : Nat) (Option.none : Option Jvm.ClassFile.FieldType)) ∈ lw_all := lw_g (lw_at lw_m1 139 rfl) rfl
theorem q157 : (Jvm.Cond.methodLink "RelooperRun" (108 : Nat) ({ cls := "RelooperRun", name := "findLoops", desc := "()V" } : Jvm.MethodName)) ∈ lw_all := lw_g (lw_at lw_m1 140 rfl) rfl
theorem q158 : (Jvm.Cond.privateMethod ({ cls := "RelooperRun", name := "findLoops", desc := "()V" } : Jvm.MethodName)) ∈ lw_tbl := lw_at lw_m1 141 rfl
theorem q159 : (Jvm.Cond.instanceMethod ({ cls := "RelooperRun", name := "findLoops", desc := "()V" } : Jvm.MethodName)) ∈ lw_all := lw_g (lw_at lw_m1 142 rfl) rfl
theorem q160 : (Jvm.Cond.code ({ cls := "RelooperRun", name := "findLoops", desc := "()V" } : Jvm.MethodName) prog_1_method_13_code (4 : Nat) (Option.none : Option Jvm.ClassFile.FieldType)) ∈ lw_all := lw_g (lw_at lw_m1 143 rfl) rfl
theorem q161 : (Jvm.Cond.methodLink "RelooperRun" (92 : Nat) ({ cls := "RelooperRun", name := "addLoop", desc := "(II)V" } : Jvm.MethodName)) ∈ lw_all := lw_g (lw_at lw_m1 144 rfl) rfl
theorem q162 : (Jvm.Cond.privateMethod ({ cls := "RelooperRun", name := "addLoop", desc := "(II)V" } : Jvm.MethodName)) ∈ lw_tbl := lw_at lw_m1 145 rfl
theorem q163 : (Jvm.Cond.instanceMethod ({ cls := "RelooperRun", name := "addLoop", desc := "(II)V" } : Jvm.MethodName)) ∈ lw_all := lw_g (lw_at lw_m1 146 rfl) rfl
theorem q164 : (Jvm.Cond.code ({ cls := "RelooperRun", name := "addLoop", desc := "(II)V" } : Jvm.MethodName) prog_1_method_12_code (4 : Nat) (Option.none : Option Jvm.ClassFile.FieldType)) ∈ lw_all := lw_g (lw_at lw_m1 147 rfl) rfl
theorem q165 : (Jvm.Cond.methodLink "RelooperRun" (111 : Nat) ({ cls := "RelooperRun", name := "widenOnce", desc := "()Z" } : Jvm.MethodName)) ∈ lw_all := lw_g (lw_at lw_m1 148 rfl) rfl
theorem q166 : (Jvm.Cond.privateMethod ({ cls := "RelooperRun", name := "widenOnce", desc := "()Z" } : Jvm.MethodName)) ∈ lw_tbl := lw_at lw_m1 149 rfl
theorem q167 : (Jvm.Cond.instanceMethod ({ cls := "RelooperRun", name := "widenOnce", desc := "()Z" } : Jvm.MethodName)) ∈ lw_all := lw_g (lw_at lw_m1 150 rfl) rfl
theorem q168 : (Jvm.Cond.code ({ cls := "RelooperRun", name := "widenOnce", desc := "()Z" } : Jvm.MethodName) prog_1_method_14_code (4 : Nat) (Option.some Jvm.ClassFile.FieldType.boolean)) ∈ lw_all := lw_g (lw_at lw_m1 151 rfl) rfl
theorem q169 : (Jvm.Cond.methodLink "RelooperRun" (115 : Nat) ({ cls := "RelooperRun", name := "emit", desc := "()V" } : Jvm.MethodName)) ∈ lw_all := lw_g (lw_at lw_m1 152 rfl) rfl
theorem q170 : (Jvm.Cond.privateMethod ({ cls := "RelooperRun", name := "emit", desc := "()V" } : Jvm.MethodName)) ∈ lw_tbl := lw_at lw_m1 153 rfl
theorem q171 : (Jvm.Cond.instanceMethod ({ cls := "RelooperRun", name := "emit", desc := "()V" } : Jvm.MethodName)) ∈ lw_all := lw_g (lw_at lw_m1 154 rfl) rfl
theorem q172 : (Jvm.Cond.code ({ cls := "RelooperRun", name := "emit", desc := "()V" } : Jvm.MethodName) prog_1_method_16_code (3 : Nat) (Option.none : Option Jvm.ClassFile.FieldType)) ∈ lw_all := lw_g (lw_at lw_m1 155 rfl) rfl
theorem q173 : (Jvm.Cond.methodLink "RelooperRun" (99 : Nat) ({ cls := "RelooperRun", name := "put", desc := "(II)V" } : Jvm.MethodName)) ∈ lw_all := lw_g (lw_at lw_m1 156 rfl) rfl
theorem q174 : (Jvm.Cond.privateMethod ({ cls := "RelooperRun", name := "put", desc := "(II)V" } : Jvm.MethodName)) ∈ lw_tbl := lw_at lw_m1 157 rfl
theorem q175 : (Jvm.Cond.instanceMethod ({ cls := "RelooperRun", name := "put", desc := "(II)V" } : Jvm.MethodName)) ∈ lw_all := lw_g (lw_at lw_m1 158 rfl) rfl
theorem q176 : (Jvm.Cond.code ({ cls := "RelooperRun", name := "put", desc := "(II)V" } : Jvm.MethodName) prog_1_method_15_code (3 : Nat) (Option.none : Option Jvm.ClassFile.FieldType)) ∈ lw_all := lw_g (lw_at lw_m1 159 rfl) rfl
theorem q177 : (Jvm.Cond.methodLink "RelooperRun" (102 : Nat) ({ cls := "RelooperRun", name := "endLoop", desc := "(II)V" } : Jvm.MethodName)) ∈ lw_all := lw_g (lw_at lw_m1 160 rfl) rfl
theorem q178 : (Jvm.Cond.privateMethod ({ cls := "RelooperRun", name := "endLoop", desc := "(II)V" } : Jvm.MethodName)) ∈ lw_tbl := lw_at lw_m1 161 rfl
theorem q179 : (Jvm.Cond.instanceMethod ({ cls := "RelooperRun", name := "endLoop", desc := "(II)V" } : Jvm.MethodName)) ∈ lw_all := lw_g (lw_at lw_m1 162 rfl) rfl
theorem q180 : (Jvm.Cond.code ({ cls := "RelooperRun", name := "endLoop", desc := "(II)V" } : Jvm.MethodName) prog_1_method_17_code (4 : Nat) (Option.none : Option Jvm.ClassFile.FieldType)) ∈ lw_all := lw_g (lw_at lw_m1 163 rfl) rfl
theorem q181 : (Jvm.Cond.methodLink "RelooperRun" (137 : Nat) ({ cls := "RelooperRun", name := "perform", desc := "(II)I" } : Jvm.MethodName)) ∈ lw_all := lw_g (lw_at lw_m1 164 rfl) rfl
theorem q182 : (Jvm.Cond.privateMethod ({ cls := "RelooperRun", name := "perform", desc := "(II)I" } : Jvm.MethodName)) ∈ lw_tbl := lw_at lw_m1 165 rfl
theorem q183 : (Jvm.Cond.instanceMethod ({ cls := "RelooperRun", name := "perform", desc := "(II)I" } : Jvm.MethodName)) ∈ lw_all := lw_g (lw_at lw_m1 166 rfl) rfl
theorem q184 : (Jvm.Cond.code ({ cls := "RelooperRun", name := "perform", desc := "(II)I" } : Jvm.MethodName) prog_1_method_21_code (3 : Nat) (Option.some Jvm.ClassFile.FieldType.int)) ∈ lw_all := lw_g (lw_at lw_m1 167 rfl) rfl
theorem q185 : (Jvm.Cond.methodLink "RelooperRun" (131 : Nat) ({ cls := "RelooperRun", name := "enter", desc := "(I)V" } : Jvm.MethodName)) ∈ lw_all := lw_g (lw_at lw_m1 168 rfl) rfl
theorem q186 : (Jvm.Cond.privateMethod ({ cls := "RelooperRun", name := "enter", desc := "(I)V" } : Jvm.MethodName)) ∈ lw_tbl := lw_at lw_m1 169 rfl
theorem q187 : (Jvm.Cond.instanceMethod ({ cls := "RelooperRun", name := "enter", desc := "(I)V" } : Jvm.MethodName)) ∈ lw_all := lw_g (lw_at lw_m1 170 rfl) rfl
theorem q188 : (Jvm.Cond.code ({ cls := "RelooperRun", name := "enter", desc := "(I)V" } : Jvm.MethodName) prog_1_method_20_code (3 : Nat) (Option.none : Option Jvm.ClassFile.FieldType)) ∈ lw_all := lw_g (lw_at lw_m1 171 rfl) rfl
theorem q189 : (Jvm.Cond.methodLink "RelooperRun" (124 : Nat) ({ cls := "RelooperRun", name := "carryOut", desc := "(I)V" } : Jvm.MethodName)) ∈ lw_all := lw_g (lw_at lw_m1 172 rfl) rfl
theorem q190 : (Jvm.Cond.privateMethod ({ cls := "RelooperRun", name := "carryOut", desc := "(I)V" } : Jvm.MethodName)) ∈ lw_tbl := lw_at lw_m1 173 rfl
theorem q191 : (Jvm.Cond.instanceMethod ({ cls := "RelooperRun", name := "carryOut", desc := "(I)V" } : Jvm.MethodName)) ∈ lw_all := lw_g (lw_at lw_m1 174 rfl) rfl
theorem q192 : (Jvm.Cond.code ({ cls := "RelooperRun", name := "carryOut", desc := "(I)V" } : Jvm.MethodName) prog_1_method_19_code (4 : Nat) (Option.none : Option Jvm.ClassFile.FieldType)) ∈ lw_all := lw_g (lw_at lw_m1 175 rfl) rfl
theorem q194 : (Jvm.Cond.instanceMethod ({ cls := "RelooperRun", name := "get", desc := "(I)I" } : Jvm.MethodName)) ∈ lw_all := lw_g (lw_at lw_m1 177 rfl) rfl
theorem q195 : (Jvm.Cond.selects "RelooperRun" ({ cls := "RelooperRun", name := "get", desc := "(I)I" } : Jvm.MethodName) ({ cls := "RelooperRun", name := "get", desc := "(I)I" } : Jvm.MethodName)) ∈ lw_all := lw_g (lw_at lw_m1 178 rfl) rfl
theorem q196 : (Jvm.Cond.code ({ cls := "RelooperRun", name := "get", desc := "(I)I" } : Jvm.MethodName) prog_1_method_23_code (2 : Nat) (Option.some Jvm.ClassFile.FieldType.int)) ∈ lw_all := lw_g (lw_at lw_m1 179 rfl) rfl
theorem q198 : (Jvm.Cond.instanceMethod ({ cls := "RelooperRun", name := "outputs", desc := "()I" } : Jvm.MethodName)) ∈ lw_all := lw_g (lw_at lw_m1 181 rfl) rfl
theorem q199 : (Jvm.Cond.selects "RelooperRun" ({ cls := "RelooperRun", name := "outputs", desc := "()I" } : Jvm.MethodName) ({ cls := "RelooperRun", name := "outputs", desc := "()I" } : Jvm.MethodName)) ∈ lw_all := lw_g (lw_at lw_m1 182 rfl) rfl
theorem q200 : (Jvm.Cond.code ({ cls := "RelooperRun", name := "outputs", desc := "()I" } : Jvm.MethodName) prog_1_method_24_code (1 : Nat) (Option.some Jvm.ClassFile.FieldType.int)) ∈ lw_all := lw_g (lw_at lw_m1 183 rfl) rfl
theorem q202 : (Jvm.Cond.instanceMethod ({ cls := "RelooperRun", name := "output", desc := "(I)I" } : Jvm.MethodName)) ∈ lw_all := lw_g (lw_at lw_m1 185 rfl) rfl
theorem q203 : (Jvm.Cond.selects "RelooperRun" ({ cls := "RelooperRun", name := "output", desc := "(I)I" } : Jvm.MethodName) ({ cls := "RelooperRun", name := "output", desc := "(I)I" } : Jvm.MethodName)) ∈ lw_all := lw_g (lw_at lw_m1 186 rfl) rfl
theorem q204 : (Jvm.Cond.code ({ cls := "RelooperRun", name := "output", desc := "(I)I" } : Jvm.MethodName) prog_1_method_25_code (2 : Nat) (Option.some Jvm.ClassFile.FieldType.int)) ∈ lw_all := lw_g (lw_at lw_m1 187 rfl) rfl
theorem q206 : (Jvm.Cond.instanceMethod ({ cls := "RelooperRun", name := "visits", desc := "(I)I" } : Jvm.MethodName)) ∈ lw_all := lw_g (lw_at lw_m1 189 rfl) rfl
theorem q207 : (Jvm.Cond.selects "RelooperRun" ({ cls := "RelooperRun", name := "visits", desc := "(I)I" } : Jvm.MethodName) ({ cls := "RelooperRun", name := "visits", desc := "(I)I" } : Jvm.MethodName)) ∈ lw_all := lw_g (lw_at lw_m1 190 rfl) rfl
theorem q208 : (Jvm.Cond.code ({ cls := "RelooperRun", name := "visits", desc := "(I)I" } : Jvm.MethodName) prog_1_method_26_code (2 : Nat) (Option.some Jvm.ClassFile.FieldType.int)) ∈ lw_all := lw_g (lw_at lw_m1 191 rfl) rfl
theorem q210 : (Jvm.Cond.instanceMethod ({ cls := "RelooperRun", name := "last", desc := "()I" } : Jvm.MethodName)) ∈ lw_all := lw_g (lw_at lw_m1 193 rfl) rfl
theorem q211 : (Jvm.Cond.selects "RelooperRun" ({ cls := "RelooperRun", name := "last", desc := "()I" } : Jvm.MethodName) ({ cls := "RelooperRun", name := "last", desc := "()I" } : Jvm.MethodName)) ∈ lw_all := lw_g (lw_at lw_m1 194 rfl) rfl
theorem q212 : (Jvm.Cond.code ({ cls := "RelooperRun", name := "last", desc := "()I" } : Jvm.MethodName) prog_1_method_27_code (1 : Nat) (Option.some Jvm.ClassFile.FieldType.int)) ∈ lw_all := lw_g (lw_at lw_m1 195 rfl) rfl
theorem q214 : (Jvm.Cond.instanceMethod ({ cls := "RelooperRun", name := "reachable", desc := "()I" } : Jvm.MethodName)) ∈ lw_all := lw_g (lw_at lw_m1 197 rfl) rfl
theorem q215 : (Jvm.Cond.selects "RelooperRun" ({ cls := "RelooperRun", name := "reachable", desc := "()I" } : Jvm.MethodName) ({ cls := "RelooperRun", name := "reachable", desc := "()I" } : Jvm.MethodName)) ∈ lw_all := lw_g (lw_at lw_m1 198 rfl) rfl
theorem q216 : (Jvm.Cond.code ({ cls := "RelooperRun", name := "reachable", desc := "()I" } : Jvm.MethodName) prog_1_method_28_code (1 : Nat) (Option.some Jvm.ClassFile.FieldType.int)) ∈ lw_all := lw_g (lw_at lw_m1 199 rfl) rfl
theorem in_X0 : ∀ w ∈ wsX00, w ∈ lw_all := lw_in wsX00 [55, 57, 59, 61, 63, 65, 67, 69, 71, 73, 75, 77, 79, 81, 83, 85, 87, 89, 91, 93, 95, 97, 99, 101, 103, 105, 107] (by decide +kernel) (by decide +kernel)

/-! RelooperRunModel -/
set_option maxRecDepth 100000
def RX1 : String := "RelooperRunModel"
def TX1 : u_T := fun k => match k with
  | 0 => ("RelooperRunModel", "counts", "[I", true)
  | 1 => ("RelooperRunModel", "ops", "[I", true)
  | 2 => ("RelooperRunModel", "vs", "[I", true)
  | 3 => ("RelooperRunModel", "ws", "[I", true)
  | 4 => ("RelooperRunModel", "ends", "[I", true)
  | 5 => ("RelooperRunModel", "tests", "[I", true)
  | 6 => ("RelooperRunModel", "thens", "[I", true)
  | 7 => ("RelooperRunModel", "elses", "[I", true)
  | 8 => ("RelooperRunModel", "vars", "[I", true)
  | 9 => ("RelooperRunModel", "outputs", "I", false)
  | 10 => ("RelooperRunModel", "recent", "[I", true)
  | 11 => ("RelooperRunModel", "visits", "[I", true)
  | _ => ("RelooperRunModel", "last", "I", false)
def tyX1 : Nat → FieldType := fun k => match k with
  | 0 => .array .int
  | 1 => .array .int
  | 2 => .array .int
  | 3 => .array .int
  | 4 => .array .int
  | 5 => .array .int
  | 6 => .array .int
  | 7 => .array .int
  | 8 => .array .int
  | 9 => .int
  | 10 => .array .int
  | 11 => .array .int
  | _ => .int
abbrev wsX10 : List Cond := u_ws RX1 TX1 13
set_option maxRecDepth 100000 in
theorem nmX1 : ∀ a, a < 13 → ∀ b, b < 13 → a ≠ b → (TX1 a).2.1 ≠ (TX1 b).2.1 := by decide +kernel
set_option maxRecDepth 100000 in
theorem tyX1_ok : ∀ k, k < 13 → parseFieldDescriptor (TX1 k).2.2.1 = some (tyX1 k) := by decide +kernel
abbrev cX1_init : ByteArray := prog_3_method_1_code
def yX1_init : MethodName := ⟨RX1, "<init>", "()V"⟩
abbrev cX1_assign : ByteArray := prog_3_method_4_code
def yX1_assign : MethodName := ⟨RX1, "assign", "(IIII)I"⟩
abbrev cX1_bad : ByteArray := prog_3_method_2_code
def yX1_bad : MethodName := ⟨RX1, "bad", "(I)Z"⟩
abbrev cX1_badVariable : ByteArray := prog_3_method_3_code
def yX1_badVariable : MethodName := ⟨RX1, "badVariable", "(I)Z"⟩
abbrev cX1_empty : ByteArray := prog_3_method_5_code
def yX1_empty : MethodName := ⟨RX1, "empty", "(I)I"⟩
abbrev cX1_stop : ByteArray := prog_3_method_6_code
def yX1_stop : MethodName := ⟨RX1, "stop", "(I)I"⟩
abbrev cX1_go : ByteArray := prog_3_method_7_code
def yX1_go : MethodName := ⟨RX1, "go", "(II)I"⟩
abbrev cX1_branch : ByteArray := prog_3_method_8_code
def yX1_branch : MethodName := ⟨RX1, "branch", "(IIII)I"⟩
abbrev cX1_set : ByteArray := prog_3_method_9_code
def yX1_set : MethodName := ⟨RX1, "set", "(II)I"⟩
abbrev cX1_run : ByteArray := prog_3_method_13_code
def yX1_run : MethodName := ⟨RX1, "run", "()I"⟩
abbrev cX1_enter : ByteArray := prog_3_method_12_code
def yX1_enter : MethodName := ⟨RX1, "enter", "(I)V"⟩
abbrev cX1_carryOut : ByteArray := prog_3_method_11_code
def yX1_carryOut : MethodName := ⟨RX1, "carryOut", "(I)V"⟩
abbrev cX1_out : ByteArray := prog_3_method_10_code
def yX1_out : MethodName := ⟨RX1, "out", "(I)V"⟩
abbrev cX1_get : ByteArray := prog_3_method_14_code
def yX1_get : MethodName := ⟨RX1, "get", "(I)I"⟩
abbrev cX1_outputs : ByteArray := prog_3_method_15_code
def yX1_outputs : MethodName := ⟨RX1, "outputs", "()I"⟩
abbrev cX1_output : ByteArray := prog_3_method_16_code
def yX1_output : MethodName := ⟨RX1, "output", "(I)I"⟩
abbrev cX1_visits : ByteArray := prog_3_method_17_code
def yX1_visits : MethodName := ⟨RX1, "visits", "(I)I"⟩
abbrev cX1_last : ByteArray := prog_3_method_18_code
def yX1_last : MethodName := ⟨RX1, "last", "()I"⟩
abbrev cX1_reachable : ByteArray := prog_3_method_19_code
def yX1_reachable : MethodName := ⟨RX1, "reachable", "()I"⟩
theorem q19 : (Jvm.Cond.initialized "RelooperRunModel") ∈ lw_all := lw_g (lw_at lw_m1 2 rfl) rfl
theorem q218 : (Jvm.Cond.instantiable "RelooperRunModel" (13 : Nat)) ∈ lw_all := lw_g (lw_at lw_m1 201 rfl) rfl
theorem q220 : (Jvm.Cond.instanceMethod ({ cls := "RelooperRunModel", name := "<init>", desc := "()V" } : Jvm.MethodName)) ∈ lw_all := lw_g (lw_at lw_m1 203 rfl) rfl
theorem q221 : (Jvm.Cond.code ({ cls := "RelooperRunModel", name := "<init>", desc := "()V" } : Jvm.MethodName) prog_3_method_1_code (1 : Nat) (Option.none : Option Jvm.ClassFile.FieldType)) ∈ lw_all := lw_g (lw_at lw_m1 204 rfl) rfl
theorem q222 : (Jvm.Cond.methodLink "RelooperRunModel" (1 : Nat) ({ cls := "java/lang/Object", name := "<init>", desc := "()V" } : Jvm.MethodName)) ∈ lw_all := lw_g (lw_at lw_m1 205 rfl) rfl
theorem q223 : (Jvm.Cond.fieldLink "RelooperRunModel" (7 : Nat) "RelooperRunModel" "counts" "[I") ∈ lw_all := lw_g (lw_at lw_m1 206 rfl) rfl
theorem q224 : (Jvm.Cond.fieldLink "RelooperRunModel" (13 : Nat) "RelooperRunModel" "ops" "[I") ∈ lw_all := lw_g (lw_at lw_m1 207 rfl) rfl
theorem q225 : (Jvm.Cond.fieldLink "RelooperRunModel" (16 : Nat) "RelooperRunModel" "vs" "[I") ∈ lw_all := lw_g (lw_at lw_m1 208 rfl) rfl
theorem q226 : (Jvm.Cond.fieldLink "RelooperRunModel" (19 : Nat) "RelooperRunModel" "ws" "[I") ∈ lw_all := lw_g (lw_at lw_m1 209 rfl) rfl
theorem q227 : (Jvm.Cond.fieldLink "RelooperRunModel" (22 : Nat) "RelooperRunModel" "ends" "[I") ∈ lw_all := lw_g (lw_at lw_m1 210 rfl) rfl
theorem q228 : (Jvm.Cond.fieldLink "RelooperRunModel" (25 : Nat) "RelooperRunModel" "tests" "[I") ∈ lw_all := lw_g (lw_at lw_m1 211 rfl) rfl
theorem q229 : (Jvm.Cond.fieldLink "RelooperRunModel" (28 : Nat) "RelooperRunModel" "thens" "[I") ∈ lw_all := lw_g (lw_at lw_m1 212 rfl) rfl
theorem q230 : (Jvm.Cond.fieldLink "RelooperRunModel" (31 : Nat) "RelooperRunModel" "elses" "[I") ∈ lw_all := lw_g (lw_at lw_m1 213 rfl) rfl
theorem q231 : (Jvm.Cond.fieldLink "RelooperRunModel" (34 : Nat) "RelooperRunModel" "vars" "[I") ∈ lw_all := lw_g (lw_at lw_m1 214 rfl) rfl
theorem q232 : (Jvm.Cond.fieldLink "RelooperRunModel" (54 : Nat) "RelooperRunModel" "outputs" "I") ∈ lw_all := lw_g (lw_at lw_m1 215 rfl) rfl
theorem q233 : (Jvm.Cond.fieldLink "RelooperRunModel" (37 : Nat) "RelooperRunModel" "recent" "[I") ∈ lw_all := lw_g (lw_at lw_m1 216 rfl) rfl
theorem q234 : (Jvm.Cond.fieldLink "RelooperRunModel" (40 : Nat) "RelooperRunModel" "visits" "[I") ∈ lw_all := lw_g (lw_at lw_m1 217 rfl) rfl
theorem q235 : (Jvm.Cond.fieldLink "RelooperRunModel" (43 : Nat) "RelooperRunModel" "last" "I") ∈ lw_all := lw_g (lw_at lw_m1 218 rfl) rfl
theorem q236 : (Jvm.Cond.laysFinal "RelooperRunModel" "RelooperRunModel" "counts" "[I") ∈ lw_all := lw_g (lw_at lw_m1 219 rfl) rfl
theorem q237 : (Jvm.Cond.soleField "RelooperRunModel" "counts") ∈ lw_all := lw_g (lw_at lw_m1 220 rfl) rfl
theorem q238 : (Jvm.Cond.laysFinal "RelooperRunModel" "RelooperRunModel" "ops" "[I") ∈ lw_all := lw_g (lw_at lw_m1 221 rfl) rfl
theorem q239 : (Jvm.Cond.soleField "RelooperRunModel" "ops") ∈ lw_all := lw_g (lw_at lw_m1 222 rfl) rfl
theorem q240 : (Jvm.Cond.laysFinal "RelooperRunModel" "RelooperRunModel" "vs" "[I") ∈ lw_all := lw_g (lw_at lw_m1 223 rfl) rfl
theorem q241 : (Jvm.Cond.soleField "RelooperRunModel" "vs") ∈ lw_all := lw_g (lw_at lw_m1 224 rfl) rfl
theorem q242 : (Jvm.Cond.laysFinal "RelooperRunModel" "RelooperRunModel" "ws" "[I") ∈ lw_all := lw_g (lw_at lw_m1 225 rfl) rfl
theorem q243 : (Jvm.Cond.soleField "RelooperRunModel" "ws") ∈ lw_all := lw_g (lw_at lw_m1 226 rfl) rfl
theorem q244 : (Jvm.Cond.laysFinal "RelooperRunModel" "RelooperRunModel" "ends" "[I") ∈ lw_all := lw_g (lw_at lw_m1 227 rfl) rfl
theorem q245 : (Jvm.Cond.soleField "RelooperRunModel" "ends") ∈ lw_all := lw_g (lw_at lw_m1 228 rfl) rfl
theorem q246 : (Jvm.Cond.laysFinal "RelooperRunModel" "RelooperRunModel" "tests" "[I") ∈ lw_all := lw_g (lw_at lw_m1 229 rfl) rfl
theorem q247 : (Jvm.Cond.soleField "RelooperRunModel" "tests") ∈ lw_all := lw_g (lw_at lw_m1 230 rfl) rfl
theorem q248 : (Jvm.Cond.laysFinal "RelooperRunModel" "RelooperRunModel" "thens" "[I") ∈ lw_all := lw_g (lw_at lw_m1 231 rfl) rfl
theorem q249 : (Jvm.Cond.soleField "RelooperRunModel" "thens") ∈ lw_all := lw_g (lw_at lw_m1 232 rfl) rfl
theorem q250 : (Jvm.Cond.laysFinal "RelooperRunModel" "RelooperRunModel" "elses" "[I") ∈ lw_all := lw_g (lw_at lw_m1 233 rfl) rfl
theorem q251 : (Jvm.Cond.soleField "RelooperRunModel" "elses") ∈ lw_all := lw_g (lw_at lw_m1 234 rfl) rfl
theorem q252 : (Jvm.Cond.laysFinal "RelooperRunModel" "RelooperRunModel" "vars" "[I") ∈ lw_all := lw_g (lw_at lw_m1 235 rfl) rfl
theorem q253 : (Jvm.Cond.soleField "RelooperRunModel" "vars") ∈ lw_all := lw_g (lw_at lw_m1 236 rfl) rfl
theorem q254 : (Jvm.Cond.lays "RelooperRunModel" "RelooperRunModel" "outputs" "I") ∈ lw_all := lw_g (lw_at lw_m1 237 rfl) rfl
theorem q255 : (Jvm.Cond.soleField "RelooperRunModel" "outputs") ∈ lw_all := lw_g (lw_at lw_m1 238 rfl) rfl
theorem q256 : (Jvm.Cond.laysFinal "RelooperRunModel" "RelooperRunModel" "recent" "[I") ∈ lw_all := lw_g (lw_at lw_m1 239 rfl) rfl
theorem q257 : (Jvm.Cond.soleField "RelooperRunModel" "recent") ∈ lw_all := lw_g (lw_at lw_m2 0 rfl) rfl
theorem q258 : (Jvm.Cond.laysFinal "RelooperRunModel" "RelooperRunModel" "visits" "[I") ∈ lw_all := lw_g (lw_at lw_m2 1 rfl) rfl
theorem q259 : (Jvm.Cond.soleField "RelooperRunModel" "visits") ∈ lw_all := lw_g (lw_at lw_m2 2 rfl) rfl
theorem q260 : (Jvm.Cond.lays "RelooperRunModel" "RelooperRunModel" "last" "I") ∈ lw_all := lw_g (lw_at lw_m2 3 rfl) rfl
theorem q261 : (Jvm.Cond.soleField "RelooperRunModel" "last") ∈ lw_all := lw_g (lw_at lw_m2 4 rfl) rfl
theorem q262 : (Jvm.Cond.superclass "RelooperRunModel" "java/lang/Object") ∈ lw_all := lw_g (lw_at lw_m2 5 rfl) rfl
theorem q264 : (Jvm.Cond.instanceMethod ({ cls := "RelooperRunModel", name := "assign", desc := "(IIII)I" } : Jvm.MethodName)) ∈ lw_all := lw_g (lw_at lw_m2 7 rfl) rfl
theorem q265 : (Jvm.Cond.selects "RelooperRunModel" ({ cls := "RelooperRunModel", name := "assign", desc := "(IIII)I" } : Jvm.MethodName) ({ cls := "RelooperRunModel", name := "assign", desc := "(IIII)I" } : Jvm.MethodName)) ∈ lw_all := lw_g (lw_at lw_m2 8 rfl) rfl
theorem q266 : (Jvm.Cond.code ({ cls := "RelooperRunModel", name := "assign", desc := "(IIII)I" } : Jvm.MethodName) prog_3_method_4_code (6 : Nat) (Option.some Jvm.ClassFile.FieldType.int)) ∈ lw_all := lw_g (lw_at lw_m2 9 rfl) rfl
theorem q267 : (Jvm.Cond.methodLink "RelooperRunModel" (47 : Nat) ({ cls := "RelooperRunModel", name := "bad", desc := "(I)Z" } : Jvm.MethodName)) ∈ lw_all := lw_g (lw_at lw_m2 10 rfl) rfl
theorem q268 : (Jvm.Cond.privateMethod ({ cls := "RelooperRunModel", name := "bad", desc := "(I)Z" } : Jvm.MethodName)) ∈ lw_tbl := lw_at lw_m2 11 rfl
theorem q269 : (Jvm.Cond.instanceMethod ({ cls := "RelooperRunModel", name := "bad", desc := "(I)Z" } : Jvm.MethodName)) ∈ lw_all := lw_g (lw_at lw_m2 12 rfl) rfl
theorem q270 : (Jvm.Cond.code ({ cls := "RelooperRunModel", name := "bad", desc := "(I)Z" } : Jvm.MethodName) prog_3_method_2_code (2 : Nat) (Option.some Jvm.ClassFile.FieldType.boolean)) ∈ lw_all := lw_g (lw_at lw_m2 13 rfl) rfl
theorem q271 : (Jvm.Cond.methodLink "RelooperRunModel" (51 : Nat) ({ cls := "RelooperRunModel", name := "badVariable", desc := "(I)Z" } : Jvm.MethodName)) ∈ lw_all := lw_g (lw_at lw_m2 14 rfl) rfl
theorem q272 : (Jvm.Cond.privateMethod ({ cls := "RelooperRunModel", name := "badVariable", desc := "(I)Z" } : Jvm.MethodName)) ∈ lw_tbl := lw_at lw_m2 15 rfl
theorem q273 : (Jvm.Cond.instanceMethod ({ cls := "RelooperRunModel", name := "badVariable", desc := "(I)Z" } : Jvm.MethodName)) ∈ lw_all := lw_g (lw_at lw_m2 16 rfl) rfl
theorem q274 : (Jvm.Cond.code ({ cls := "RelooperRunModel", name := "badVariable", desc := "(I)Z" } : Jvm.MethodName) prog_3_method_3_code (2 : Nat) (Option.some Jvm.ClassFile.FieldType.boolean)) ∈ lw_all := lw_g (lw_at lw_m2 17 rfl) rfl
theorem q276 : (Jvm.Cond.instanceMethod ({ cls := "RelooperRunModel", name := "empty", desc := "(I)I" } : Jvm.MethodName)) ∈ lw_all := lw_g (lw_at lw_m2 19 rfl) rfl
theorem q277 : (Jvm.Cond.selects "RelooperRunModel" ({ cls := "RelooperRunModel", name := "empty", desc := "(I)I" } : Jvm.MethodName) ({ cls := "RelooperRunModel", name := "empty", desc := "(I)I" } : Jvm.MethodName)) ∈ lw_all := lw_g (lw_at lw_m2 20 rfl) rfl
theorem q278 : (Jvm.Cond.code ({ cls := "RelooperRunModel", name := "empty", desc := "(I)I" } : Jvm.MethodName) prog_3_method_5_code (3 : Nat) (Option.some Jvm.ClassFile.FieldType.int)) ∈ lw_all := lw_g (lw_at lw_m2 21 rfl) rfl
theorem q280 : (Jvm.Cond.instanceMethod ({ cls := "RelooperRunModel", name := "stop", desc := "(I)I" } : Jvm.MethodName)) ∈ lw_all := lw_g (lw_at lw_m2 23 rfl) rfl
theorem q281 : (Jvm.Cond.selects "RelooperRunModel" ({ cls := "RelooperRunModel", name := "stop", desc := "(I)I" } : Jvm.MethodName) ({ cls := "RelooperRunModel", name := "stop", desc := "(I)I" } : Jvm.MethodName)) ∈ lw_all := lw_g (lw_at lw_m2 24 rfl) rfl
theorem q282 : (Jvm.Cond.code ({ cls := "RelooperRunModel", name := "stop", desc := "(I)I" } : Jvm.MethodName) prog_3_method_6_code (2 : Nat) (Option.some Jvm.ClassFile.FieldType.int)) ∈ lw_all := lw_g (lw_at lw_m2 25 rfl) rfl
theorem q284 : (Jvm.Cond.instanceMethod ({ cls := "RelooperRunModel", name := "go", desc := "(II)I" } : Jvm.MethodName)) ∈ lw_all := lw_g (lw_at lw_m2 27 rfl) rfl
theorem q285 : (Jvm.Cond.selects "RelooperRunModel" ({ cls := "RelooperRunModel", name := "go", desc := "(II)I" } : Jvm.MethodName) ({ cls := "RelooperRunModel", name := "go", desc := "(II)I" } : Jvm.MethodName)) ∈ lw_all := lw_g (lw_at lw_m2 28 rfl) rfl
theorem q286 : (Jvm.Cond.code ({ cls := "RelooperRunModel", name := "go", desc := "(II)I" } : Jvm.MethodName) prog_3_method_7_code (3 : Nat) (Option.some Jvm.ClassFile.FieldType.int)) ∈ lw_all := lw_g (lw_at lw_m2 29 rfl) rfl
theorem q288 : (Jvm.Cond.instanceMethod ({ cls := "RelooperRunModel", name := "branch", desc := "(IIII)I" } : Jvm.MethodName)) ∈ lw_all := lw_g (lw_at lw_m2 31 rfl) rfl
theorem q289 : (Jvm.Cond.selects "RelooperRunModel" ({ cls := "RelooperRunModel", name := "branch", desc := "(IIII)I" } : Jvm.MethodName) ({ cls := "RelooperRunModel", name := "branch", desc := "(IIII)I" } : Jvm.MethodName)) ∈ lw_all := lw_g (lw_at lw_m2 32 rfl) rfl
theorem q290 : (Jvm.Cond.code ({ cls := "RelooperRunModel", name := "branch", desc := "(IIII)I" } : Jvm.MethodName) prog_3_method_8_code (5 : Nat) (Option.some Jvm.ClassFile.FieldType.int)) ∈ lw_all := lw_g (lw_at lw_m2 33 rfl) rfl
theorem q292 : (Jvm.Cond.instanceMethod ({ cls := "RelooperRunModel", name := "set", desc := "(II)I" } : Jvm.MethodName)) ∈ lw_all := lw_g (lw_at lw_m2 35 rfl) rfl
theorem q293 : (Jvm.Cond.selects "RelooperRunModel" ({ cls := "RelooperRunModel", name := "set", desc := "(II)I" } : Jvm.MethodName) ({ cls := "RelooperRunModel", name := "set", desc := "(II)I" } : Jvm.MethodName)) ∈ lw_all := lw_g (lw_at lw_m2 36 rfl) rfl
theorem q294 : (Jvm.Cond.code ({ cls := "RelooperRunModel", name := "set", desc := "(II)I" } : Jvm.MethodName) prog_3_method_9_code (3 : Nat) (Option.some Jvm.ClassFile.FieldType.int)) ∈ lw_all := lw_g (lw_at lw_m2 37 rfl) rfl
theorem q296 : (Jvm.Cond.instanceMethod ({ cls := "RelooperRunModel", name := "run", desc := "()I" } : Jvm.MethodName)) ∈ lw_all := lw_g (lw_at lw_m2 39 rfl) rfl
theorem q297 : (Jvm.Cond.selects "RelooperRunModel" ({ cls := "RelooperRunModel", name := "run", desc := "()I" } : Jvm.MethodName) ({ cls := "RelooperRunModel", name := "run", desc := "()I" } : Jvm.MethodName)) ∈ lw_all := lw_g (lw_at lw_m2 40 rfl) rfl
theorem q298 : (Jvm.Cond.code ({ cls := "RelooperRunModel", name := "run", desc := "()I" } : Jvm.MethodName) prog_3_method_13_code (3 : Nat) (Option.some Jvm.ClassFile.FieldType.int)) ∈ lw_all := lw_g (lw_at lw_m2 41 rfl) rfl
theorem q299 : (Jvm.Cond.methodLink "RelooperRunModel" (64 : Nat) ({ cls := "RelooperRunModel", name := "enter", desc := "(I)V" } : Jvm.MethodName)) ∈ lw_all := lw_g (lw_at lw_m2 42 rfl) rfl
theorem q300 : (Jvm.Cond.privateMethod ({ cls := "RelooperRunModel", name := "enter", desc := "(I)V" } : Jvm.MethodName)) ∈ lw_tbl := lw_at lw_m2 43 rfl
theorem q301 : (Jvm.Cond.instanceMethod ({ cls := "RelooperRunModel", name := "enter", desc := "(I)V" } : Jvm.MethodName)) ∈ lw_all := lw_g (lw_at lw_m2 44 rfl) rfl
theorem q302 : (Jvm.Cond.code ({ cls := "RelooperRunModel", name := "enter", desc := "(I)V" } : Jvm.MethodName) prog_3_method_12_code (3 : Nat) (Option.none : Option Jvm.ClassFile.FieldType)) ∈ lw_all := lw_g (lw_at lw_m2 45 rfl) rfl
theorem q303 : (Jvm.Cond.methodLink "RelooperRunModel" (61 : Nat) ({ cls := "RelooperRunModel", name := "carryOut", desc := "(I)V" } : Jvm.MethodName)) ∈ lw_all := lw_g (lw_at lw_m2 46 rfl) rfl
theorem q304 : (Jvm.Cond.privateMethod ({ cls := "RelooperRunModel", name := "carryOut", desc := "(I)V" } : Jvm.MethodName)) ∈ lw_tbl := lw_at lw_m2 47 rfl
theorem q305 : (Jvm.Cond.instanceMethod ({ cls := "RelooperRunModel", name := "carryOut", desc := "(I)V" } : Jvm.MethodName)) ∈ lw_all := lw_g (lw_at lw_m2 48 rfl) rfl
theorem q306 : (Jvm.Cond.code ({ cls := "RelooperRunModel", name := "carryOut", desc := "(I)V" } : Jvm.MethodName) prog_3_method_11_code (5 : Nat) (Option.none : Option Jvm.ClassFile.FieldType)) ∈ lw_all := lw_g (lw_at lw_m2 49 rfl) rfl
theorem q307 : (Jvm.Cond.methodLink "RelooperRunModel" (57 : Nat) ({ cls := "RelooperRunModel", name := "out", desc := "(I)V" } : Jvm.MethodName)) ∈ lw_all := lw_g (lw_at lw_m2 50 rfl) rfl
theorem q308 : (Jvm.Cond.privateMethod ({ cls := "RelooperRunModel", name := "out", desc := "(I)V" } : Jvm.MethodName)) ∈ lw_tbl := lw_at lw_m2 51 rfl
theorem q309 : (Jvm.Cond.instanceMethod ({ cls := "RelooperRunModel", name := "out", desc := "(I)V" } : Jvm.MethodName)) ∈ lw_all := lw_g (lw_at lw_m2 52 rfl) rfl
theorem q310 : (Jvm.Cond.code ({ cls := "RelooperRunModel", name := "out", desc := "(I)V" } : Jvm.MethodName) prog_3_method_10_code (3 : Nat) (Option.none : Option Jvm.ClassFile.FieldType)) ∈ lw_all := lw_g (lw_at lw_m2 53 rfl) rfl
theorem q312 : (Jvm.Cond.instanceMethod ({ cls := "RelooperRunModel", name := "get", desc := "(I)I" } : Jvm.MethodName)) ∈ lw_all := lw_g (lw_at lw_m2 55 rfl) rfl
theorem q313 : (Jvm.Cond.selects "RelooperRunModel" ({ cls := "RelooperRunModel", name := "get", desc := "(I)I" } : Jvm.MethodName) ({ cls := "RelooperRunModel", name := "get", desc := "(I)I" } : Jvm.MethodName)) ∈ lw_all := lw_g (lw_at lw_m2 56 rfl) rfl
theorem q314 : (Jvm.Cond.code ({ cls := "RelooperRunModel", name := "get", desc := "(I)I" } : Jvm.MethodName) prog_3_method_14_code (2 : Nat) (Option.some Jvm.ClassFile.FieldType.int)) ∈ lw_all := lw_g (lw_at lw_m2 57 rfl) rfl
theorem q316 : (Jvm.Cond.instanceMethod ({ cls := "RelooperRunModel", name := "outputs", desc := "()I" } : Jvm.MethodName)) ∈ lw_all := lw_g (lw_at lw_m2 59 rfl) rfl
theorem q317 : (Jvm.Cond.selects "RelooperRunModel" ({ cls := "RelooperRunModel", name := "outputs", desc := "()I" } : Jvm.MethodName) ({ cls := "RelooperRunModel", name := "outputs", desc := "()I" } : Jvm.MethodName)) ∈ lw_all := lw_g (lw_at lw_m2 60 rfl) rfl
theorem q318 : (Jvm.Cond.code ({ cls := "RelooperRunModel", name := "outputs", desc := "()I" } : Jvm.MethodName) prog_3_method_15_code (1 : Nat) (Option.some Jvm.ClassFile.FieldType.int)) ∈ lw_all := lw_g (lw_at lw_m2 61 rfl) rfl
theorem q320 : (Jvm.Cond.instanceMethod ({ cls := "RelooperRunModel", name := "output", desc := "(I)I" } : Jvm.MethodName)) ∈ lw_all := lw_g (lw_at lw_m2 63 rfl) rfl
theorem q321 : (Jvm.Cond.selects "RelooperRunModel" ({ cls := "RelooperRunModel", name := "output", desc := "(I)I" } : Jvm.MethodName) ({ cls := "RelooperRunModel", name := "output", desc := "(I)I" } : Jvm.MethodName)) ∈ lw_all := lw_g (lw_at lw_m2 64 rfl) rfl
theorem q322 : (Jvm.Cond.code ({ cls := "RelooperRunModel", name := "output", desc := "(I)I" } : Jvm.MethodName) prog_3_method_16_code (2 : Nat) (Option.some Jvm.ClassFile.FieldType.int)) ∈ lw_all := lw_g (lw_at lw_m2 65 rfl) rfl
theorem q324 : (Jvm.Cond.instanceMethod ({ cls := "RelooperRunModel", name := "visits", desc := "(I)I" } : Jvm.MethodName)) ∈ lw_all := lw_g (lw_at lw_m2 67 rfl) rfl
theorem q325 : (Jvm.Cond.selects "RelooperRunModel" ({ cls := "RelooperRunModel", name := "visits", desc := "(I)I" } : Jvm.MethodName) ({ cls := "RelooperRunModel", name := "visits", desc := "(I)I" } : Jvm.MethodName)) ∈ lw_all := lw_g (lw_at lw_m2 68 rfl) rfl
theorem q326 : (Jvm.Cond.code ({ cls := "RelooperRunModel", name := "visits", desc := "(I)I" } : Jvm.MethodName) prog_3_method_17_code (2 : Nat) (Option.some Jvm.ClassFile.FieldType.int)) ∈ lw_all := lw_g (lw_at lw_m2 69 rfl) rfl
theorem q328 : (Jvm.Cond.instanceMethod ({ cls := "RelooperRunModel", name := "last", desc := "()I" } : Jvm.MethodName)) ∈ lw_all := lw_g (lw_at lw_m2 71 rfl) rfl
theorem q329 : (Jvm.Cond.selects "RelooperRunModel" ({ cls := "RelooperRunModel", name := "last", desc := "()I" } : Jvm.MethodName) ({ cls := "RelooperRunModel", name := "last", desc := "()I" } : Jvm.MethodName)) ∈ lw_all := lw_g (lw_at lw_m2 72 rfl) rfl
theorem q330 : (Jvm.Cond.code ({ cls := "RelooperRunModel", name := "last", desc := "()I" } : Jvm.MethodName) prog_3_method_18_code (1 : Nat) (Option.some Jvm.ClassFile.FieldType.int)) ∈ lw_all := lw_g (lw_at lw_m2 73 rfl) rfl
theorem q332 : (Jvm.Cond.instanceMethod ({ cls := "RelooperRunModel", name := "reachable", desc := "()I" } : Jvm.MethodName)) ∈ lw_all := lw_g (lw_at lw_m2 75 rfl) rfl
theorem q333 : (Jvm.Cond.selects "RelooperRunModel" ({ cls := "RelooperRunModel", name := "reachable", desc := "()I" } : Jvm.MethodName) ({ cls := "RelooperRunModel", name := "reachable", desc := "()I" } : Jvm.MethodName)) ∈ lw_all := lw_g (lw_at lw_m2 76 rfl) rfl
theorem q334 : (Jvm.Cond.code ({ cls := "RelooperRunModel", name := "reachable", desc := "()I" } : Jvm.MethodName) prog_3_method_19_code (4 : Nat) (Option.some Jvm.ClassFile.FieldType.int)) ∈ lw_all := lw_g (lw_at lw_m2 77 rfl) rfl
theorem in_X1 : ∀ w ∈ wsX10, w ∈ lw_all := lw_in wsX10 [236, 238, 240, 242, 244, 246, 248, 250, 252, 254, 256, 258, 260] (by decide +kernel) (by decide +kernel)

/-! the law's own entry -/
set_option maxRecDepth 100000
abbrev cL_law : ByteArray := code

/-! java/lang/Object -/
set_option maxRecDepth 100000
def RJ0 : String := "java/lang/Object"
abbrev cJ0_init : ByteArray := object_method_1_code
def yJ0_init : MethodName := ⟨RJ0, "<init>", "()V"⟩
theorem dJ0_init_0 : decode cJ0_init 0 = .ok (.return_, 1) := by decide +kernel
theorem q26 : (Jvm.Cond.instanceMethod ({ cls := "java/lang/Object", name := "<init>", desc := "()V" } : Jvm.MethodName)) ∈ lw_all := lw_g (lw_at lw_m1 9 rfl) rfl
theorem q27 : (Jvm.Cond.code ({ cls := "java/lang/Object", name := "<init>", desc := "()V" } : Jvm.MethodName) object_method_1_code (1 : Nat) (Option.none : Option Jvm.ClassFile.FieldType)) ∈ lw_all := lw_g (lw_at lw_m1 10 rfl) rfl

theorem q17 : (Jvm.Cond.initialized "RelooperRunLaw") ∈ lw_all := lw_g (lw_at lw_m1 0 rfl) rfl
set_option maxRecDepth 100000
theorem q20 : (Jvm.Cond.classLink "RelooperRunLaw" (7 : Nat) "RelooperRun") ∈ lw_all := lw_g (lw_at lw_m1 3 rfl) rfl
theorem q22 : (Jvm.Cond.methodLink "RelooperRunLaw" (9 : Nat) ({ cls := "RelooperRun", name := "<init>", desc := "()V" } : Jvm.MethodName)) ∈ lw_all := lw_g (lw_at lw_m1 5 rfl) rfl
theorem q111 : (Jvm.Cond.methodLink "RelooperRunLaw" (13 : Nat) ({ cls := "RelooperRun", name := "assign", desc := "(IIII)I" } : Jvm.MethodName)) ∈ lw_all := lw_g (lw_at lw_m1 94 rfl) rfl
theorem q121 : (Jvm.Cond.methodLink "RelooperRunLaw" (18 : Nat) ({ cls := "RelooperRun", name := "empty", desc := "(I)I" } : Jvm.MethodName)) ∈ lw_all := lw_g (lw_at lw_m1 104 rfl) rfl
theorem q125 : (Jvm.Cond.methodLink "RelooperRunLaw" (23 : Nat) ({ cls := "RelooperRun", name := "stop", desc := "(I)I" } : Jvm.MethodName)) ∈ lw_all := lw_g (lw_at lw_m1 108 rfl) rfl
theorem q133 : (Jvm.Cond.methodLink "RelooperRunLaw" (27 : Nat) ({ cls := "RelooperRun", name := "go", desc := "(II)I" } : Jvm.MethodName)) ∈ lw_all := lw_g (lw_at lw_m1 116 rfl) rfl
theorem q137 : (Jvm.Cond.methodLink "RelooperRunLaw" (32 : Nat) ({ cls := "RelooperRun", name := "branch", desc := "(IIII)I" } : Jvm.MethodName)) ∈ lw_all := lw_g (lw_at lw_m1 120 rfl) rfl
theorem q141 : (Jvm.Cond.methodLink "RelooperRunLaw" (36 : Nat) ({ cls := "RelooperRun", name := "set", desc := "(II)I" } : Jvm.MethodName)) ∈ lw_all := lw_g (lw_at lw_m1 124 rfl) rfl
theorem q145 : (Jvm.Cond.methodLink "RelooperRunLaw" (40 : Nat) ({ cls := "RelooperRun", name := "run", desc := "()I" } : Jvm.MethodName)) ∈ lw_all := lw_g (lw_at lw_m1 128 rfl) rfl
theorem q193 : (Jvm.Cond.methodLink "RelooperRunLaw" (45 : Nat) ({ cls := "RelooperRun", name := "get", desc := "(I)I" } : Jvm.MethodName)) ∈ lw_all := lw_g (lw_at lw_m1 176 rfl) rfl
theorem q197 : (Jvm.Cond.methodLink "RelooperRunLaw" (49 : Nat) ({ cls := "RelooperRun", name := "outputs", desc := "()I" } : Jvm.MethodName)) ∈ lw_all := lw_g (lw_at lw_m1 180 rfl) rfl
theorem q201 : (Jvm.Cond.methodLink "RelooperRunLaw" (53 : Nat) ({ cls := "RelooperRun", name := "output", desc := "(I)I" } : Jvm.MethodName)) ∈ lw_all := lw_g (lw_at lw_m1 184 rfl) rfl
theorem q205 : (Jvm.Cond.methodLink "RelooperRunLaw" (57 : Nat) ({ cls := "RelooperRun", name := "visits", desc := "(I)I" } : Jvm.MethodName)) ∈ lw_all := lw_g (lw_at lw_m1 188 rfl) rfl
theorem q209 : (Jvm.Cond.methodLink "RelooperRunLaw" (61 : Nat) ({ cls := "RelooperRun", name := "last", desc := "()I" } : Jvm.MethodName)) ∈ lw_all := lw_g (lw_at lw_m1 192 rfl) rfl
theorem q213 : (Jvm.Cond.methodLink "RelooperRunLaw" (65 : Nat) ({ cls := "RelooperRun", name := "reachable", desc := "()I" } : Jvm.MethodName)) ∈ lw_all := lw_g (lw_at lw_m1 196 rfl) rfl
theorem q217 : (Jvm.Cond.classLink "RelooperRunLaw" (10 : Nat) "RelooperRunModel") ∈ lw_all := lw_g (lw_at lw_m1 200 rfl) rfl
theorem q219 : (Jvm.Cond.methodLink "RelooperRunLaw" (12 : Nat) ({ cls := "RelooperRunModel", name := "<init>", desc := "()V" } : Jvm.MethodName)) ∈ lw_all := lw_g (lw_at lw_m1 202 rfl) rfl
theorem q263 : (Jvm.Cond.methodLink "RelooperRunLaw" (17 : Nat) ({ cls := "RelooperRunModel", name := "assign", desc := "(IIII)I" } : Jvm.MethodName)) ∈ lw_all := lw_g (lw_at lw_m2 6 rfl) rfl
theorem q275 : (Jvm.Cond.methodLink "RelooperRunLaw" (22 : Nat) ({ cls := "RelooperRunModel", name := "empty", desc := "(I)I" } : Jvm.MethodName)) ∈ lw_all := lw_g (lw_at lw_m2 18 rfl) rfl
theorem q279 : (Jvm.Cond.methodLink "RelooperRunLaw" (26 : Nat) ({ cls := "RelooperRunModel", name := "stop", desc := "(I)I" } : Jvm.MethodName)) ∈ lw_all := lw_g (lw_at lw_m2 22 rfl) rfl
theorem q283 : (Jvm.Cond.methodLink "RelooperRunLaw" (31 : Nat) ({ cls := "RelooperRunModel", name := "go", desc := "(II)I" } : Jvm.MethodName)) ∈ lw_all := lw_g (lw_at lw_m2 26 rfl) rfl
theorem q287 : (Jvm.Cond.methodLink "RelooperRunLaw" (35 : Nat) ({ cls := "RelooperRunModel", name := "branch", desc := "(IIII)I" } : Jvm.MethodName)) ∈ lw_all := lw_g (lw_at lw_m2 30 rfl) rfl
theorem q291 : (Jvm.Cond.methodLink "RelooperRunLaw" (39 : Nat) ({ cls := "RelooperRunModel", name := "set", desc := "(II)I" } : Jvm.MethodName)) ∈ lw_all := lw_g (lw_at lw_m2 34 rfl) rfl
theorem q295 : (Jvm.Cond.methodLink "RelooperRunLaw" (44 : Nat) ({ cls := "RelooperRunModel", name := "run", desc := "()I" } : Jvm.MethodName)) ∈ lw_all := lw_g (lw_at lw_m2 38 rfl) rfl
theorem q311 : (Jvm.Cond.methodLink "RelooperRunLaw" (48 : Nat) ({ cls := "RelooperRunModel", name := "get", desc := "(I)I" } : Jvm.MethodName)) ∈ lw_all := lw_g (lw_at lw_m2 54 rfl) rfl
theorem q315 : (Jvm.Cond.methodLink "RelooperRunLaw" (52 : Nat) ({ cls := "RelooperRunModel", name := "outputs", desc := "()I" } : Jvm.MethodName)) ∈ lw_all := lw_g (lw_at lw_m2 58 rfl) rfl
theorem q319 : (Jvm.Cond.methodLink "RelooperRunLaw" (56 : Nat) ({ cls := "RelooperRunModel", name := "output", desc := "(I)I" } : Jvm.MethodName)) ∈ lw_all := lw_g (lw_at lw_m2 62 rfl) rfl
theorem q323 : (Jvm.Cond.methodLink "RelooperRunLaw" (60 : Nat) ({ cls := "RelooperRunModel", name := "visits", desc := "(I)I" } : Jvm.MethodName)) ∈ lw_all := lw_g (lw_at lw_m2 66 rfl) rfl
theorem q327 : (Jvm.Cond.methodLink "RelooperRunLaw" (64 : Nat) ({ cls := "RelooperRunModel", name := "last", desc := "()I" } : Jvm.MethodName)) ∈ lw_all := lw_g (lw_at lw_m2 70 rfl) rfl
theorem q331 : (Jvm.Cond.methodLink "RelooperRunLaw" (68 : Nat) ({ cls := "RelooperRunModel", name := "reachable", desc := "()I" } : Jvm.MethodName)) ∈ lw_all := lw_g (lw_at lw_m2 74 rfl) rfl

theorem q110 : (Jvm.Cond.arrayClass Jvm.ClassFile.FieldType.int) ∈ lw_all := lw_g (lw_at lw_m1 93 rfl) rfl
set_option maxRecDepth 100000
end
section
set_option maxRecDepth 100000
theorem dX0_init_0 : decode cX0_init 0 = .ok (.aload_n 0, 1) := by decide +kernel
theorem dX0_init_1 : decode cX0_init 1 = .ok (.invokespecial 1, 3) := by decide +kernel
theorem dX0_init_4 : decode cX0_init 4 = .ok (.aload_n 0, 1) := by decide +kernel
theorem dX0_init_5 : decode cX0_init 5 = .ok (.bipush 10, 2) := by decide +kernel
theorem dX0_init_7 : decode cX0_init 7 = .ok (.newarray .int, 2) := by decide +kernel
theorem dX0_init_9 : decode cX0_init 9 = .ok (.putfield 7, 3) := by decide +kernel
theorem dX0_init_12 : decode cX0_init 12 = .ok (.aload_n 0, 1) := by decide +kernel
theorem dX0_init_13 : decode cX0_init 13 = .ok (.bipush 30, 2) := by decide +kernel
theorem dX0_init_15 : decode cX0_init 15 = .ok (.newarray .int, 2) := by decide +kernel
theorem dX0_init_17 : decode cX0_init 17 = .ok (.putfield 13, 3) := by decide +kernel
theorem dX0_init_20 : decode cX0_init 20 = .ok (.aload_n 0, 1) := by decide +kernel
theorem dX0_init_21 : decode cX0_init 21 = .ok (.bipush 30, 2) := by decide +kernel
theorem dX0_init_23 : decode cX0_init 23 = .ok (.newarray .int, 2) := by decide +kernel
theorem dX0_init_25 : decode cX0_init 25 = .ok (.putfield 16, 3) := by decide +kernel
theorem dX0_init_28 : decode cX0_init 28 = .ok (.aload_n 0, 1) := by decide +kernel
theorem dX0_init_29 : decode cX0_init 29 = .ok (.bipush 30, 2) := by decide +kernel
theorem dX0_init_31 : decode cX0_init 31 = .ok (.newarray .int, 2) := by decide +kernel
theorem dX0_init_33 : decode cX0_init 33 = .ok (.putfield 19, 3) := by decide +kernel
theorem dX0_init_36 : decode cX0_init 36 = .ok (.aload_n 0, 1) := by decide +kernel
theorem dX0_init_37 : decode cX0_init 37 = .ok (.bipush 10, 2) := by decide +kernel
theorem dX0_init_39 : decode cX0_init 39 = .ok (.newarray .int, 2) := by decide +kernel
theorem dX0_init_41 : decode cX0_init 41 = .ok (.putfield 22, 3) := by decide +kernel
theorem dX0_init_44 : decode cX0_init 44 = .ok (.aload_n 0, 1) := by decide +kernel
theorem dX0_init_45 : decode cX0_init 45 = .ok (.bipush 10, 2) := by decide +kernel
theorem dX0_init_47 : decode cX0_init 47 = .ok (.newarray .int, 2) := by decide +kernel
theorem dX0_init_49 : decode cX0_init 49 = .ok (.putfield 25, 3) := by decide +kernel
theorem dX0_init_52 : decode cX0_init 52 = .ok (.aload_n 0, 1) := by decide +kernel
theorem dX0_init_53 : decode cX0_init 53 = .ok (.bipush 10, 2) := by decide +kernel
theorem dX0_init_55 : decode cX0_init 55 = .ok (.newarray .int, 2) := by decide +kernel
theorem dX0_init_57 : decode cX0_init 57 = .ok (.putfield 28, 3) := by decide +kernel
theorem dX0_init_60 : decode cX0_init 60 = .ok (.aload_n 0, 1) := by decide +kernel
theorem dX0_init_61 : decode cX0_init 61 = .ok (.bipush 10, 2) := by decide +kernel
theorem dX0_init_63 : decode cX0_init 63 = .ok (.newarray .int, 2) := by decide +kernel
theorem dX0_init_65 : decode cX0_init 65 = .ok (.putfield 31, 3) := by decide +kernel
theorem dX0_init_68 : decode cX0_init 68 = .ok (.aload_n 0, 1) := by decide +kernel
theorem dX0_init_69 : decode cX0_init 69 = .ok (.bipush 10, 2) := by decide +kernel
theorem dX0_init_71 : decode cX0_init 71 = .ok (.newarray .int, 2) := by decide +kernel
theorem dX0_init_73 : decode cX0_init 73 = .ok (.putfield 34, 3) := by decide +kernel
theorem dX0_init_76 : decode cX0_init 76 = .ok (.aload_n 0, 1) := by decide +kernel
theorem dX0_init_77 : decode cX0_init 77 = .ok (.bipush 11, 2) := by decide +kernel
theorem dX0_init_79 : decode cX0_init 79 = .ok (.newarray .int, 2) := by decide +kernel
theorem dX0_init_81 : decode cX0_init 81 = .ok (.putfield 37, 3) := by decide +kernel
theorem dX0_init_84 : decode cX0_init 84 = .ok (.aload_n 0, 1) := by decide +kernel
theorem dX0_init_85 : decode cX0_init 85 = .ok (.bipush 11, 2) := by decide +kernel
theorem dX0_init_87 : decode cX0_init 87 = .ok (.newarray .int, 2) := by decide +kernel
theorem dX0_init_89 : decode cX0_init 89 = .ok (.putfield 40, 3) := by decide +kernel
theorem dX0_init_92 : decode cX0_init 92 = .ok (.aload_n 0, 1) := by decide +kernel
theorem dX0_init_93 : decode cX0_init 93 = .ok (.bipush 20, 2) := by decide +kernel
theorem dX0_init_95 : decode cX0_init 95 = .ok (.newarray .int, 2) := by decide +kernel
theorem dX0_init_97 : decode cX0_init 97 = .ok (.putfield 43, 3) := by decide +kernel
theorem dX0_init_100 : decode cX0_init 100 = .ok (.aload_n 0, 1) := by decide +kernel
theorem dX0_init_101 : decode cX0_init 101 = .ok (.bipush 20, 2) := by decide +kernel
theorem dX0_init_103 : decode cX0_init 103 = .ok (.newarray .int, 2) := by decide +kernel
theorem dX0_init_105 : decode cX0_init 105 = .ok (.putfield 46, 3) := by decide +kernel
theorem dX0_init_108 : decode cX0_init 108 = .ok (.aload_n 0, 1) := by decide +kernel
theorem dX0_init_109 : decode cX0_init 109 = .ok (.bipush 64, 2) := by decide +kernel
theorem dX0_init_111 : decode cX0_init 111 = .ok (.newarray .int, 2) := by decide +kernel
theorem dX0_init_113 : decode cX0_init 113 = .ok (.putfield 49, 3) := by decide +kernel
theorem dX0_init_116 : decode cX0_init 116 = .ok (.aload_n 0, 1) := by decide +kernel
theorem dX0_init_117 : decode cX0_init 117 = .ok (.bipush 64, 2) := by decide +kernel
theorem dX0_init_119 : decode cX0_init 119 = .ok (.newarray .int, 2) := by decide +kernel
theorem dX0_init_121 : decode cX0_init 121 = .ok (.putfield 52, 3) := by decide +kernel
theorem dX0_init_124 : decode cX0_init 124 = .ok (.aload_n 0, 1) := by decide +kernel
theorem dX0_init_125 : decode cX0_init 125 = .ok (.bipush 20, 2) := by decide +kernel
theorem dX0_init_127 : decode cX0_init 127 = .ok (.newarray .int, 2) := by decide +kernel
theorem dX0_init_129 : decode cX0_init 129 = .ok (.putfield 55, 3) := by decide +kernel
theorem dX0_init_132 : decode cX0_init 132 = .ok (.aload_n 0, 1) := by decide +kernel
theorem dX0_init_133 : decode cX0_init 133 = .ok (.iconst 4, 1) := by decide +kernel
theorem dX0_init_134 : decode cX0_init 134 = .ok (.newarray .int, 2) := by decide +kernel
theorem dX0_init_136 : decode cX0_init 136 = .ok (.putfield 58, 3) := by decide +kernel
theorem dX0_init_139 : decode cX0_init 139 = .ok (.aload_n 0, 1) := by decide +kernel
theorem dX0_init_140 : decode cX0_init 140 = .ok (.bipush 10, 2) := by decide +kernel
theorem dX0_init_142 : decode cX0_init 142 = .ok (.newarray .int, 2) := by decide +kernel
theorem dX0_init_144 : decode cX0_init 144 = .ok (.putfield 61, 3) := by decide +kernel
theorem dX0_init_147 : decode cX0_init 147 = .ok (.aload_n 0, 1) := by decide +kernel
theorem dX0_init_148 : decode cX0_init 148 = .ok (.bipush 16, 2) := by decide +kernel
theorem dX0_init_150 : decode cX0_init 150 = .ok (.newarray .int, 2) := by decide +kernel
theorem dX0_init_152 : decode cX0_init 152 = .ok (.putfield 64, 3) := by decide +kernel
theorem dX0_init_155 : decode cX0_init 155 = .ok (.iconst 0, 1) := by decide +kernel
theorem dX0_init_156 : decode cX0_init 156 = .ok (.istore_n 1, 1) := by decide +kernel
theorem dX0_init_157 : decode cX0_init 157 = .ok (.iload_n 1, 1) := by decide +kernel
theorem dX0_init_158 : decode cX0_init 158 = .ok (.bipush 10, 2) := by decide +kernel
theorem dX0_init_160 : decode cX0_init 160 = .ok (.if_icmp .ge 30, 3) := by decide +kernel
theorem dX0_init_163 : decode cX0_init 163 = .ok (.aload_n 0, 1) := by decide +kernel
theorem dX0_init_164 : decode cX0_init 164 = .ok (.getfield 22, 3) := by decide +kernel
theorem dX0_init_167 : decode cX0_init 167 = .ok (.iload_n 1, 1) := by decide +kernel
theorem dX0_init_168 : decode cX0_init 168 = .ok (.iconst (-1), 1) := by decide +kernel
theorem dX0_init_169 : decode cX0_init 169 = .ok (.iastore, 1) := by decide +kernel
theorem dX0_init_170 : decode cX0_init 170 = .ok (.aload_n 0, 1) := by decide +kernel
theorem dX0_init_171 : decode cX0_init 171 = .ok (.getfield 25, 3) := by decide +kernel
theorem dX0_init_174 : decode cX0_init 174 = .ok (.iload_n 1, 1) := by decide +kernel
theorem dX0_init_175 : decode cX0_init 175 = .ok (.iconst (-1), 1) := by decide +kernel
theorem dX0_init_176 : decode cX0_init 176 = .ok (.iastore, 1) := by decide +kernel
theorem dX0_init_177 : decode cX0_init 177 = .ok (.aload_n 0, 1) := by decide +kernel
theorem dX0_init_178 : decode cX0_init 178 = .ok (.getfield 28, 3) := by decide +kernel
theorem dX0_init_181 : decode cX0_init 181 = .ok (.iload_n 1, 1) := by decide +kernel
theorem dX0_init_182 : decode cX0_init 182 = .ok (.iconst (-1), 1) := by decide +kernel
theorem dX0_init_183 : decode cX0_init 183 = .ok (.iastore, 1) := by decide +kernel
theorem dX0_init_184 : decode cX0_init 184 = .ok (.iinc 1 1, 3) := by decide +kernel
theorem dX0_init_187 : decode cX0_init 187 = .ok (.goto (-30), 3) := by decide +kernel
theorem dX0_init_190 : decode cX0_init 190 = .ok (.aload_n 0, 1) := by decide +kernel
theorem dX0_init_191 : decode cX0_init 191 = .ok (.iconst (-1), 1) := by decide +kernel
theorem dX0_init_192 : decode cX0_init 192 = .ok (.putfield 67, 3) := by decide +kernel
theorem dX0_init_195 : decode cX0_init 195 = .ok (.return_, 1) := by decide +kernel
theorem dX0_assign_0 : decode cX0_assign 0 = .ok (.iload_n 1, 1) := by decide +kernel
theorem dX0_assign_1 : decode cX0_assign 1 = .ok (.invokestatic 71, 3) := by decide +kernel
theorem dX0_assign_4 : decode cX0_assign 4 = .ok (.ifCond .eq 5, 3) := by decide +kernel
theorem dX0_assign_7 : decode cX0_assign 7 = .ok (.iconst (-1), 1) := by decide +kernel
theorem dX0_assign_8 : decode cX0_assign 8 = .ok (.ireturn, 1) := by decide +kernel
theorem dX0_assign_9 : decode cX0_assign 9 = .ok (.iload_n 2, 1) := by decide +kernel
theorem dX0_assign_10 : decode cX0_assign 10 = .ok (.ifCond .lt 8, 3) := by decide +kernel
theorem dX0_assign_13 : decode cX0_assign 13 = .ok (.iload_n 2, 1) := by decide +kernel
theorem dX0_assign_14 : decode cX0_assign 14 = .ok (.iconst 5, 1) := by decide +kernel
theorem dX0_assign_15 : decode cX0_assign 15 = .ok (.if_icmp .le 6, 3) := by decide +kernel
theorem dX0_assign_18 : decode cX0_assign 18 = .ok (.bipush (-3), 2) := by decide +kernel
theorem dX0_assign_20 : decode cX0_assign 20 = .ok (.ireturn, 1) := by decide +kernel
theorem dX0_assign_21 : decode cX0_assign 21 = .ok (.iload_n 3, 1) := by decide +kernel
theorem dX0_assign_22 : decode cX0_assign 22 = .ok (.invokestatic 75, 3) := by decide +kernel
theorem dX0_assign_25 : decode cX0_assign 25 = .ok (.ifCond .ne 21, 3) := by decide +kernel
theorem dX0_assign_28 : decode cX0_assign 28 = .ok (.iload_n 2, 1) := by decide +kernel
theorem dX0_assign_29 : decode cX0_assign 29 = .ok (.iconst 1, 1) := by decide +kernel
theorem dX0_assign_30 : decode cX0_assign 30 = .ok (.if_icmp .lt 19, 3) := by decide +kernel
theorem dX0_assign_33 : decode cX0_assign 33 = .ok (.iload_n 2, 1) := by decide +kernel
theorem dX0_assign_34 : decode cX0_assign 34 = .ok (.iconst 3, 1) := by decide +kernel
theorem dX0_assign_35 : decode cX0_assign 35 = .ok (.if_icmp .gt 14, 3) := by decide +kernel
theorem dX0_assign_38 : decode cX0_assign 38 = .ok (.iload 4, 2) := by decide +kernel
theorem dX0_assign_40 : decode cX0_assign 40 = .ok (.invokestatic 75, 3) := by decide +kernel
theorem dX0_assign_43 : decode cX0_assign 43 = .ok (.ifCond .eq 6, 3) := by decide +kernel
theorem dX0_assign_46 : decode cX0_assign 46 = .ok (.bipush (-2), 2) := by decide +kernel
theorem dX0_assign_48 : decode cX0_assign 48 = .ok (.ireturn, 1) := by decide +kernel
theorem dX0_assign_49 : decode cX0_assign 49 = .ok (.aload_n 0, 1) := by decide +kernel
theorem dX0_assign_50 : decode cX0_assign 50 = .ok (.getfield 7, 3) := by decide +kernel
theorem dX0_assign_53 : decode cX0_assign 53 = .ok (.iload_n 1, 1) := by decide +kernel
theorem dX0_assign_54 : decode cX0_assign 54 = .ok (.iaload, 1) := by decide +kernel
theorem dX0_assign_55 : decode cX0_assign 55 = .ok (.iconst 3, 1) := by decide +kernel
theorem dX0_assign_56 : decode cX0_assign 56 = .ok (.if_icmp .lt 6, 3) := by decide +kernel
theorem dX0_assign_59 : decode cX0_assign 59 = .ok (.bipush (-4), 2) := by decide +kernel
theorem dX0_assign_61 : decode cX0_assign 61 = .ok (.ireturn, 1) := by decide +kernel
theorem dX0_assign_62 : decode cX0_assign 62 = .ok (.iload_n 1, 1) := by decide +kernel
theorem dX0_assign_63 : decode cX0_assign 63 = .ok (.iconst 3, 1) := by decide +kernel
theorem dX0_assign_64 : decode cX0_assign 64 = .ok (.imul, 1) := by decide +kernel
theorem dX0_assign_65 : decode cX0_assign 65 = .ok (.aload_n 0, 1) := by decide +kernel
theorem dX0_assign_66 : decode cX0_assign 66 = .ok (.getfield 7, 3) := by decide +kernel
theorem dX0_assign_69 : decode cX0_assign 69 = .ok (.iload_n 1, 1) := by decide +kernel
theorem dX0_assign_70 : decode cX0_assign 70 = .ok (.iaload, 1) := by decide +kernel
theorem dX0_assign_71 : decode cX0_assign 71 = .ok (.iadd, 1) := by decide +kernel
theorem dX0_assign_72 : decode cX0_assign 72 = .ok (.istore 5, 2) := by decide +kernel
theorem dX0_assign_74 : decode cX0_assign 74 = .ok (.aload_n 0, 1) := by decide +kernel
theorem dX0_assign_75 : decode cX0_assign 75 = .ok (.getfield 13, 3) := by decide +kernel
theorem dX0_assign_78 : decode cX0_assign 78 = .ok (.iload 5, 2) := by decide +kernel
theorem dX0_assign_80 : decode cX0_assign 80 = .ok (.iload_n 2, 1) := by decide +kernel
theorem dX0_assign_81 : decode cX0_assign 81 = .ok (.iastore, 1) := by decide +kernel
theorem dX0_assign_82 : decode cX0_assign 82 = .ok (.aload_n 0, 1) := by decide +kernel
theorem dX0_assign_83 : decode cX0_assign 83 = .ok (.getfield 16, 3) := by decide +kernel
theorem dX0_assign_86 : decode cX0_assign 86 = .ok (.iload 5, 2) := by decide +kernel
theorem dX0_assign_88 : decode cX0_assign 88 = .ok (.iload_n 3, 1) := by decide +kernel
theorem dX0_assign_89 : decode cX0_assign 89 = .ok (.iastore, 1) := by decide +kernel
theorem dX0_assign_90 : decode cX0_assign 90 = .ok (.aload_n 0, 1) := by decide +kernel
theorem dX0_assign_91 : decode cX0_assign 91 = .ok (.getfield 19, 3) := by decide +kernel
theorem dX0_assign_94 : decode cX0_assign 94 = .ok (.iload 5, 2) := by decide +kernel
theorem dX0_assign_96 : decode cX0_assign 96 = .ok (.iload 4, 2) := by decide +kernel
theorem dX0_assign_98 : decode cX0_assign 98 = .ok (.iastore, 1) := by decide +kernel
theorem dX0_assign_99 : decode cX0_assign 99 = .ok (.aload_n 0, 1) := by decide +kernel
theorem dX0_assign_100 : decode cX0_assign 100 = .ok (.getfield 7, 3) := by decide +kernel
theorem dX0_assign_103 : decode cX0_assign 103 = .ok (.iload_n 1, 1) := by decide +kernel
theorem dX0_assign_104 : decode cX0_assign 104 = .ok (.dup2, 1) := by decide +kernel
theorem dX0_assign_105 : decode cX0_assign 105 = .ok (.iaload, 1) := by decide +kernel
theorem dX0_assign_106 : decode cX0_assign 106 = .ok (.iconst 1, 1) := by decide +kernel
theorem dX0_assign_107 : decode cX0_assign 107 = .ok (.iadd, 1) := by decide +kernel
theorem dX0_assign_108 : decode cX0_assign 108 = .ok (.iastore, 1) := by decide +kernel
theorem dX0_assign_109 : decode cX0_assign 109 = .ok (.aload_n 0, 1) := by decide +kernel
theorem dX0_assign_110 : decode cX0_assign 110 = .ok (.getfield 7, 3) := by decide +kernel
theorem dX0_assign_113 : decode cX0_assign 113 = .ok (.iload_n 1, 1) := by decide +kernel
theorem dX0_assign_114 : decode cX0_assign 114 = .ok (.iaload, 1) := by decide +kernel
theorem dX0_assign_115 : decode cX0_assign 115 = .ok (.ireturn, 1) := by decide +kernel
theorem dX0_bad_0 : decode cX0_bad 0 = .ok (.iload_n 0, 1) := by decide +kernel
theorem dX0_bad_1 : decode cX0_bad 1 = .ok (.ifCond .lt 9, 3) := by decide +kernel
theorem dX0_bad_4 : decode cX0_bad 4 = .ok (.iload_n 0, 1) := by decide +kernel
theorem dX0_bad_5 : decode cX0_bad 5 = .ok (.bipush 10, 2) := by decide +kernel
theorem dX0_bad_7 : decode cX0_bad 7 = .ok (.if_icmp .lt 7, 3) := by decide +kernel
theorem dX0_bad_10 : decode cX0_bad 10 = .ok (.iconst 1, 1) := by decide +kernel
theorem dX0_bad_11 : decode cX0_bad 11 = .ok (.goto 4, 3) := by decide +kernel
theorem dX0_bad_14 : decode cX0_bad 14 = .ok (.iconst 0, 1) := by decide +kernel
theorem dX0_bad_15 : decode cX0_bad 15 = .ok (.ireturn, 1) := by decide +kernel
theorem dX0_badVar_0 : decode cX0_badVar 0 = .ok (.iload_n 0, 1) := by decide +kernel
theorem dX0_badVar_1 : decode cX0_badVar 1 = .ok (.ifCond .lt 8, 3) := by decide +kernel
theorem dX0_badVar_4 : decode cX0_badVar 4 = .ok (.iload_n 0, 1) := by decide +kernel
theorem dX0_badVar_5 : decode cX0_badVar 5 = .ok (.iconst 3, 1) := by decide +kernel
theorem dX0_badVar_6 : decode cX0_badVar 6 = .ok (.if_icmp .le 7, 3) := by decide +kernel
theorem dX0_badVar_9 : decode cX0_badVar 9 = .ok (.iconst 1, 1) := by decide +kernel
theorem dX0_badVar_10 : decode cX0_badVar 10 = .ok (.goto 4, 3) := by decide +kernel
theorem dX0_badVar_13 : decode cX0_badVar 13 = .ok (.iconst 0, 1) := by decide +kernel
theorem dX0_badVar_14 : decode cX0_badVar 14 = .ok (.ireturn, 1) := by decide +kernel
theorem dX0_empty_0 : decode cX0_empty 0 = .ok (.iload_n 1, 1) := by decide +kernel
theorem dX0_empty_1 : decode cX0_empty 1 = .ok (.invokestatic 71, 3) := by decide +kernel
theorem dX0_empty_4 : decode cX0_empty 4 = .ok (.ifCond .eq 5, 3) := by decide +kernel
theorem dX0_empty_7 : decode cX0_empty 7 = .ok (.iconst (-1), 1) := by decide +kernel
theorem dX0_empty_8 : decode cX0_empty 8 = .ok (.ireturn, 1) := by decide +kernel
theorem dX0_empty_9 : decode cX0_empty 9 = .ok (.aload_n 0, 1) := by decide +kernel
theorem dX0_empty_10 : decode cX0_empty 10 = .ok (.getfield 7, 3) := by decide +kernel
theorem dX0_empty_13 : decode cX0_empty 13 = .ok (.iload_n 1, 1) := by decide +kernel
theorem dX0_empty_14 : decode cX0_empty 14 = .ok (.iaload, 1) := by decide +kernel
theorem dX0_empty_15 : decode cX0_empty 15 = .ok (.istore_n 2, 1) := by decide +kernel
theorem dX0_empty_16 : decode cX0_empty 16 = .ok (.aload_n 0, 1) := by decide +kernel
theorem dX0_empty_17 : decode cX0_empty 17 = .ok (.getfield 7, 3) := by decide +kernel
theorem dX0_empty_20 : decode cX0_empty 20 = .ok (.iload_n 1, 1) := by decide +kernel
theorem dX0_empty_21 : decode cX0_empty 21 = .ok (.iconst 0, 1) := by decide +kernel
theorem dX0_empty_22 : decode cX0_empty 22 = .ok (.iastore, 1) := by decide +kernel
theorem dX0_empty_23 : decode cX0_empty 23 = .ok (.iload_n 2, 1) := by decide +kernel
theorem dX0_empty_24 : decode cX0_empty 24 = .ok (.ireturn, 1) := by decide +kernel
theorem dX0_stop_0 : decode cX0_stop 0 = .ok (.iload_n 1, 1) := by decide +kernel
theorem dX0_stop_1 : decode cX0_stop 1 = .ok (.invokestatic 71, 3) := by decide +kernel
theorem dX0_stop_4 : decode cX0_stop 4 = .ok (.ifCond .eq 5, 3) := by decide +kernel
theorem dX0_stop_7 : decode cX0_stop 7 = .ok (.iconst (-1), 1) := by decide +kernel
theorem dX0_stop_8 : decode cX0_stop 8 = .ok (.ireturn, 1) := by decide +kernel
theorem dX0_stop_9 : decode cX0_stop 9 = .ok (.aload_n 0, 1) := by decide +kernel
theorem dX0_stop_10 : decode cX0_stop 10 = .ok (.iload_n 1, 1) := by decide +kernel
theorem dX0_stop_11 : decode cX0_stop 11 = .ok (.iconst (-1), 1) := by decide +kernel
theorem dX0_stop_12 : decode cX0_stop 12 = .ok (.iconst (-1), 1) := by decide +kernel
theorem dX0_stop_13 : decode cX0_stop 13 = .ok (.iconst (-1), 1) := by decide +kernel
theorem dX0_stop_14 : decode cX0_stop 14 = .ok (.invokevirtual 82, 3) := by decide +kernel
theorem dX0_stop_17 : decode cX0_stop 17 = .ok (.iconst 0, 1) := by decide +kernel
theorem dX0_stop_18 : decode cX0_stop 18 = .ok (.ireturn, 1) := by decide +kernel
theorem dX0_setEnd_0 : decode cX0_setEnd 0 = .ok (.aload_n 0, 1) := by decide +kernel
theorem dX0_setEnd_1 : decode cX0_setEnd 1 = .ok (.getfield 22, 3) := by decide +kernel
theorem dX0_setEnd_4 : decode cX0_setEnd 4 = .ok (.iload_n 1, 1) := by decide +kernel
theorem dX0_setEnd_5 : decode cX0_setEnd 5 = .ok (.iload_n 2, 1) := by decide +kernel
theorem dX0_setEnd_6 : decode cX0_setEnd 6 = .ok (.iastore, 1) := by decide +kernel
theorem dX0_setEnd_7 : decode cX0_setEnd 7 = .ok (.aload_n 0, 1) := by decide +kernel
theorem dX0_setEnd_8 : decode cX0_setEnd 8 = .ok (.getfield 25, 3) := by decide +kernel
theorem dX0_setEnd_11 : decode cX0_setEnd 11 = .ok (.iload_n 1, 1) := by decide +kernel
theorem dX0_setEnd_12 : decode cX0_setEnd 12 = .ok (.iload_n 3, 1) := by decide +kernel
theorem dX0_setEnd_13 : decode cX0_setEnd 13 = .ok (.iastore, 1) := by decide +kernel
theorem dX0_setEnd_14 : decode cX0_setEnd 14 = .ok (.aload_n 0, 1) := by decide +kernel
theorem dX0_setEnd_15 : decode cX0_setEnd 15 = .ok (.getfield 28, 3) := by decide +kernel
theorem dX0_setEnd_18 : decode cX0_setEnd 18 = .ok (.iload_n 1, 1) := by decide +kernel
theorem dX0_setEnd_19 : decode cX0_setEnd 19 = .ok (.iload 4, 2) := by decide +kernel
theorem dX0_setEnd_21 : decode cX0_setEnd 21 = .ok (.iastore, 1) := by decide +kernel
theorem dX0_setEnd_22 : decode cX0_setEnd 22 = .ok (.aload_n 0, 1) := by decide +kernel
theorem dX0_setEnd_23 : decode cX0_setEnd 23 = .ok (.iconst 0, 1) := by decide +kernel
theorem dX0_setEnd_24 : decode cX0_setEnd 24 = .ok (.putfield 78, 3) := by decide +kernel
theorem dX0_setEnd_27 : decode cX0_setEnd 27 = .ok (.return_, 1) := by decide +kernel
theorem dX0_go_0 : decode cX0_go 0 = .ok (.iload_n 1, 1) := by decide +kernel
theorem dX0_go_1 : decode cX0_go 1 = .ok (.invokestatic 71, 3) := by decide +kernel
theorem dX0_go_4 : decode cX0_go 4 = .ok (.ifCond .ne 10, 3) := by decide +kernel
theorem dX0_go_7 : decode cX0_go 7 = .ok (.iload_n 2, 1) := by decide +kernel
theorem dX0_go_8 : decode cX0_go 8 = .ok (.invokestatic 71, 3) := by decide +kernel
theorem dX0_go_11 : decode cX0_go 11 = .ok (.ifCond .eq 5, 3) := by decide +kernel
theorem dX0_go_14 : decode cX0_go 14 = .ok (.iconst (-1), 1) := by decide +kernel
theorem dX0_go_15 : decode cX0_go 15 = .ok (.ireturn, 1) := by decide +kernel
theorem dX0_go_16 : decode cX0_go 16 = .ok (.aload_n 0, 1) := by decide +kernel
theorem dX0_go_17 : decode cX0_go 17 = .ok (.iload_n 1, 1) := by decide +kernel
theorem dX0_go_18 : decode cX0_go 18 = .ok (.iconst (-1), 1) := by decide +kernel
theorem dX0_go_19 : decode cX0_go 19 = .ok (.iload_n 2, 1) := by decide +kernel
theorem dX0_go_20 : decode cX0_go 20 = .ok (.iconst (-1), 1) := by decide +kernel
theorem dX0_go_21 : decode cX0_go 21 = .ok (.invokevirtual 82, 3) := by decide +kernel
theorem dX0_go_24 : decode cX0_go 24 = .ok (.iconst 0, 1) := by decide +kernel
theorem dX0_go_25 : decode cX0_go 25 = .ok (.ireturn, 1) := by decide +kernel
theorem dX0_branch_0 : decode cX0_branch 0 = .ok (.iload_n 1, 1) := by decide +kernel
theorem dX0_branch_1 : decode cX0_branch 1 = .ok (.invokestatic 71, 3) := by decide +kernel
theorem dX0_branch_4 : decode cX0_branch 4 = .ok (.ifCond .ne 18, 3) := by decide +kernel
theorem dX0_branch_7 : decode cX0_branch 7 = .ok (.iload_n 3, 1) := by decide +kernel
theorem dX0_branch_8 : decode cX0_branch 8 = .ok (.invokestatic 71, 3) := by decide +kernel
theorem dX0_branch_11 : decode cX0_branch 11 = .ok (.ifCond .ne 11, 3) := by decide +kernel
theorem dX0_branch_14 : decode cX0_branch 14 = .ok (.iload 4, 2) := by decide +kernel
theorem dX0_branch_16 : decode cX0_branch 16 = .ok (.invokestatic 71, 3) := by decide +kernel
theorem dX0_branch_19 : decode cX0_branch 19 = .ok (.ifCond .eq 5, 3) := by decide +kernel
theorem dX0_branch_22 : decode cX0_branch 22 = .ok (.iconst (-1), 1) := by decide +kernel
theorem dX0_branch_23 : decode cX0_branch 23 = .ok (.ireturn, 1) := by decide +kernel
theorem dX0_branch_24 : decode cX0_branch 24 = .ok (.iload_n 2, 1) := by decide +kernel
theorem dX0_branch_25 : decode cX0_branch 25 = .ok (.invokestatic 75, 3) := by decide +kernel
theorem dX0_branch_28 : decode cX0_branch 28 = .ok (.ifCond .eq 6, 3) := by decide +kernel
theorem dX0_branch_31 : decode cX0_branch 31 = .ok (.bipush (-2), 2) := by decide +kernel
theorem dX0_branch_33 : decode cX0_branch 33 = .ok (.ireturn, 1) := by decide +kernel
theorem dX0_branch_34 : decode cX0_branch 34 = .ok (.aload_n 0, 1) := by decide +kernel
theorem dX0_branch_35 : decode cX0_branch 35 = .ok (.iload_n 1, 1) := by decide +kernel
theorem dX0_branch_36 : decode cX0_branch 36 = .ok (.iload_n 2, 1) := by decide +kernel
theorem dX0_branch_37 : decode cX0_branch 37 = .ok (.iload_n 3, 1) := by decide +kernel
theorem dX0_branch_38 : decode cX0_branch 38 = .ok (.iload 4, 2) := by decide +kernel
theorem dX0_branch_40 : decode cX0_branch 40 = .ok (.invokevirtual 82, 3) := by decide +kernel
theorem dX0_branch_43 : decode cX0_branch 43 = .ok (.iconst 0, 1) := by decide +kernel
theorem dX0_branch_44 : decode cX0_branch 44 = .ok (.ireturn, 1) := by decide +kernel
theorem dX0_set_0 : decode cX0_set 0 = .ok (.iload_n 1, 1) := by decide +kernel
theorem dX0_set_1 : decode cX0_set 1 = .ok (.invokestatic 75, 3) := by decide +kernel
theorem dX0_set_4 : decode cX0_set 4 = .ok (.ifCond .eq 6, 3) := by decide +kernel
theorem dX0_set_7 : decode cX0_set 7 = .ok (.bipush (-2), 2) := by decide +kernel
theorem dX0_set_9 : decode cX0_set 9 = .ok (.ireturn, 1) := by decide +kernel
theorem dX0_set_10 : decode cX0_set 10 = .ok (.aload_n 0, 1) := by decide +kernel
theorem dX0_set_11 : decode cX0_set 11 = .ok (.getfield 58, 3) := by decide +kernel
theorem dX0_set_14 : decode cX0_set 14 = .ok (.iload_n 1, 1) := by decide +kernel
theorem dX0_set_15 : decode cX0_set 15 = .ok (.iload_n 2, 1) := by decide +kernel
theorem dX0_set_16 : decode cX0_set 16 = .ok (.iastore, 1) := by decide +kernel
theorem dX0_set_17 : decode cX0_set 17 = .ok (.iconst 0, 1) := by decide +kernel
theorem dX0_set_18 : decode cX0_set 18 = .ok (.ireturn, 1) := by decide +kernel
theorem dX0_run_0 : decode cX0_run 0 = .ok (.aload_n 0, 1) := by decide +kernel
theorem dX0_run_1 : decode cX0_run 1 = .ok (.invokevirtual 134, 3) := by decide +kernel
theorem dX0_run_4 : decode cX0_run 4 = .ok (.iconst 0, 1) := by decide +kernel
theorem dX0_run_5 : decode cX0_run 5 = .ok (.istore_n 1, 1) := by decide +kernel
theorem dX0_run_6 : decode cX0_run 6 = .ok (.iload_n 1, 1) := by decide +kernel
theorem dX0_run_7 : decode cX0_run 7 = .ok (.bipush 10, 2) := by decide +kernel
theorem dX0_run_9 : decode cX0_run 9 = .ok (.if_icmp .ge 16, 3) := by decide +kernel
theorem dX0_run_12 : decode cX0_run 12 = .ok (.aload_n 0, 1) := by decide +kernel
theorem dX0_run_13 : decode cX0_run 13 = .ok (.getfield 61, 3) := by decide +kernel
theorem dX0_run_16 : decode cX0_run 16 = .ok (.iload_n 1, 1) := by decide +kernel
theorem dX0_run_17 : decode cX0_run 17 = .ok (.iconst 0, 1) := by decide +kernel
theorem dX0_run_18 : decode cX0_run 18 = .ok (.iastore, 1) := by decide +kernel
theorem dX0_run_19 : decode cX0_run 19 = .ok (.iinc 1 1, 3) := by decide +kernel
theorem dX0_run_22 : decode cX0_run 22 = .ok (.goto (-16), 3) := by decide +kernel
theorem dX0_run_25 : decode cX0_run 25 = .ok (.aload_n 0, 1) := by decide +kernel
theorem dX0_run_26 : decode cX0_run 26 = .ok (.iconst 0, 1) := by decide +kernel
theorem dX0_run_27 : decode cX0_run 27 = .ok (.putfield 118, 3) := by decide +kernel
theorem dX0_run_30 : decode cX0_run 30 = .ok (.aload_n 0, 1) := by decide +kernel
theorem dX0_run_31 : decode cX0_run 31 = .ok (.iconst 0, 1) := by decide +kernel
theorem dX0_run_32 : decode cX0_run 32 = .ok (.putfield 121, 3) := by decide +kernel
theorem dX0_run_35 : decode cX0_run 35 = .ok (.aload_n 0, 1) := by decide +kernel
theorem dX0_run_36 : decode cX0_run 36 = .ok (.iconst 0, 1) := by decide +kernel
theorem dX0_run_37 : decode cX0_run 37 = .ok (.putfield 128, 3) := by decide +kernel
theorem dX0_run_40 : decode cX0_run 40 = .ok (.iconst 0, 1) := by decide +kernel
theorem dX0_run_41 : decode cX0_run 41 = .ok (.istore_n 1, 1) := by decide +kernel
theorem dX0_run_42 : decode cX0_run 42 = .ok (.iconst 0, 1) := by decide +kernel
theorem dX0_run_43 : decode cX0_run 43 = .ok (.istore_n 2, 1) := by decide +kernel
theorem dX0_run_44 : decode cX0_run 44 = .ok (.iload_n 2, 1) := by decide +kernel
theorem dX0_run_45 : decode cX0_run 45 = .ok (.sipush 20000, 3) := by decide +kernel
theorem dX0_run_48 : decode cX0_run 48 = .ok (.if_icmp .ge 46, 3) := by decide +kernel
theorem dX0_run_51 : decode cX0_run 51 = .ok (.iload_n 1, 1) := by decide +kernel
theorem dX0_run_52 : decode cX0_run 52 = .ok (.aload_n 0, 1) := by decide +kernel
theorem dX0_run_53 : decode cX0_run 53 = .ok (.getfield 96, 3) := by decide +kernel
theorem dX0_run_56 : decode cX0_run 56 = .ok (.if_icmp .ge 38, 3) := by decide +kernel
theorem dX0_run_59 : decode cX0_run 59 = .ok (.aload_n 0, 1) := by decide +kernel
theorem dX0_run_60 : decode cX0_run 60 = .ok (.getfield 128, 3) := by decide +kernel
theorem dX0_run_63 : decode cX0_run 63 = .ok (.ifCond .lt 31, 3) := by decide +kernel
theorem dX0_run_66 : decode cX0_run 66 = .ok (.aload_n 0, 1) := by decide +kernel
theorem dX0_run_67 : decode cX0_run 67 = .ok (.getfield 121, 3) := by decide +kernel
theorem dX0_run_70 : decode cX0_run 70 = .ok (.sipush 300, 3) := by decide +kernel
theorem dX0_run_73 : decode cX0_run 73 = .ok (.if_icmp .ge 21, 3) := by decide +kernel
theorem dX0_run_76 : decode cX0_run 76 = .ok (.aload_n 0, 1) := by decide +kernel
theorem dX0_run_77 : decode cX0_run 77 = .ok (.iload_n 1, 1) := by decide +kernel
theorem dX0_run_78 : decode cX0_run 78 = .ok (.aload_n 0, 1) := by decide +kernel
theorem dX0_run_79 : decode cX0_run 79 = .ok (.getfield 52, 3) := by decide +kernel
theorem dX0_run_82 : decode cX0_run 82 = .ok (.iload_n 1, 1) := by decide +kernel
theorem dX0_run_83 : decode cX0_run 83 = .ok (.iaload, 1) := by decide +kernel
theorem dX0_run_84 : decode cX0_run 84 = .ok (.invokevirtual 137, 3) := by decide +kernel
theorem dX0_run_87 : decode cX0_run 87 = .ok (.istore_n 1, 1) := by decide +kernel
theorem dX0_run_88 : decode cX0_run 88 = .ok (.iinc 2 1, 3) := by decide +kernel
theorem dX0_run_91 : decode cX0_run 91 = .ok (.goto (-47), 3) := by decide +kernel
theorem dX0_run_94 : decode cX0_run 94 = .ok (.aload_n 0, 1) := by decide +kernel
theorem dX0_run_95 : decode cX0_run 95 = .ok (.getfield 128, 3) := by decide +kernel
theorem dX0_run_98 : decode cX0_run 98 = .ok (.ifCond .ge 7, 3) := by decide +kernel
theorem dX0_run_101 : decode cX0_run 101 = .ok (.iconst 1, 1) := by decide +kernel
theorem dX0_run_102 : decode cX0_run 102 = .ok (.goto 4, 3) := by decide +kernel
theorem dX0_run_105 : decode cX0_run 105 = .ok (.iconst 2, 1) := by decide +kernel
theorem dX0_run_106 : decode cX0_run 106 = .ok (.ireturn, 1) := by decide +kernel
theorem dX0_prepare_0 : decode cX0_prepare 0 = .ok (.aload_n 0, 1) := by decide +kernel
theorem dX0_prepare_1 : decode cX0_prepare 1 = .ok (.getfield 78, 3) := by decide +kernel
theorem dX0_prepare_4 : decode cX0_prepare 4 = .ok (.ifCond .eq 4, 3) := by decide +kernel
theorem dX0_prepare_7 : decode cX0_prepare 7 = .ok (.return_, 1) := by decide +kernel
theorem dX0_prepare_8 : decode cX0_prepare 8 = .ok (.aload_n 0, 1) := by decide +kernel
theorem dX0_prepare_9 : decode cX0_prepare 9 = .ok (.iconst 1, 1) := by decide +kernel
theorem dX0_prepare_10 : decode cX0_prepare 10 = .ok (.putfield 78, 3) := by decide +kernel
theorem dX0_prepare_13 : decode cX0_prepare 13 = .ok (.aload_n 0, 1) := by decide +kernel
end
section
set_option maxRecDepth 100000
theorem dX0_prepare_14 : decode cX0_prepare 14 = .ok (.invokevirtual 105, 3) := by decide +kernel
theorem dX0_prepare_17 : decode cX0_prepare 17 = .ok (.aload_n 0, 1) := by decide +kernel
theorem dX0_prepare_18 : decode cX0_prepare 18 = .ok (.invokevirtual 108, 3) := by decide +kernel
theorem dX0_prepare_21 : decode cX0_prepare 21 = .ok (.iconst 1, 1) := by decide +kernel
theorem dX0_prepare_22 : decode cX0_prepare 22 = .ok (.istore_n 1, 1) := by decide +kernel
theorem dX0_prepare_23 : decode cX0_prepare 23 = .ok (.iconst 0, 1) := by decide +kernel
theorem dX0_prepare_24 : decode cX0_prepare 24 = .ok (.istore_n 2, 1) := by decide +kernel
theorem dX0_prepare_25 : decode cX0_prepare 25 = .ok (.iload_n 2, 1) := by decide +kernel
theorem dX0_prepare_26 : decode cX0_prepare 26 = .ok (.bipush 100, 2) := by decide +kernel
theorem dX0_prepare_28 : decode cX0_prepare 28 = .ok (.if_icmp .ge 18, 3) := by decide +kernel
theorem dX0_prepare_31 : decode cX0_prepare 31 = .ok (.iload_n 1, 1) := by decide +kernel
theorem dX0_prepare_32 : decode cX0_prepare 32 = .ok (.ifCond .eq 14, 3) := by decide +kernel
theorem dX0_prepare_35 : decode cX0_prepare 35 = .ok (.aload_n 0, 1) := by decide +kernel
theorem dX0_prepare_36 : decode cX0_prepare 36 = .ok (.invokevirtual 111, 3) := by decide +kernel
theorem dX0_prepare_39 : decode cX0_prepare 39 = .ok (.istore_n 1, 1) := by decide +kernel
theorem dX0_prepare_40 : decode cX0_prepare 40 = .ok (.iinc 2 1, 3) := by decide +kernel
theorem dX0_prepare_43 : decode cX0_prepare 43 = .ok (.goto (-18), 3) := by decide +kernel
theorem dX0_prepare_46 : decode cX0_prepare 46 = .ok (.aload_n 0, 1) := by decide +kernel
theorem dX0_prepare_47 : decode cX0_prepare 47 = .ok (.invokevirtual 115, 3) := by decide +kernel
theorem dX0_prepare_50 : decode cX0_prepare 50 = .ok (.return_, 1) := by decide +kernel
theorem dX0_orderBlocks_0 : decode cX0_orderBlocks 0 = .ok (.iconst 0, 1) := by decide +kernel
theorem dX0_orderBlocks_1 : decode cX0_orderBlocks 1 = .ok (.istore_n 1, 1) := by decide +kernel
theorem dX0_orderBlocks_2 : decode cX0_orderBlocks 2 = .ok (.iload_n 1, 1) := by decide +kernel
theorem dX0_orderBlocks_3 : decode cX0_orderBlocks 3 = .ok (.bipush 10, 2) := by decide +kernel
theorem dX0_orderBlocks_5 : decode cX0_orderBlocks 5 = .ok (.if_icmp .ge 16, 3) := by decide +kernel
theorem dX0_orderBlocks_8 : decode cX0_orderBlocks 8 = .ok (.aload_n 0, 1) := by decide +kernel
theorem dX0_orderBlocks_9 : decode cX0_orderBlocks 9 = .ok (.getfield 34, 3) := by decide +kernel
theorem dX0_orderBlocks_12 : decode cX0_orderBlocks 12 = .ok (.iload_n 1, 1) := by decide +kernel
theorem dX0_orderBlocks_13 : decode cX0_orderBlocks 13 = .ok (.iconst (-1), 1) := by decide +kernel
theorem dX0_orderBlocks_14 : decode cX0_orderBlocks 14 = .ok (.iastore, 1) := by decide +kernel
theorem dX0_orderBlocks_15 : decode cX0_orderBlocks 15 = .ok (.iinc 1 1, 3) := by decide +kernel
theorem dX0_orderBlocks_18 : decode cX0_orderBlocks 18 = .ok (.goto (-16), 3) := by decide +kernel
theorem dX0_orderBlocks_21 : decode cX0_orderBlocks 21 = .ok (.bipush 10, 2) := by decide +kernel
theorem dX0_orderBlocks_23 : decode cX0_orderBlocks 23 = .ok (.istore_n 1, 1) := by decide +kernel
theorem dX0_orderBlocks_24 : decode cX0_orderBlocks 24 = .ok (.iconst 1, 1) := by decide +kernel
theorem dX0_orderBlocks_25 : decode cX0_orderBlocks 25 = .ok (.istore_n 2, 1) := by decide +kernel
theorem dX0_orderBlocks_26 : decode cX0_orderBlocks 26 = .ok (.iconst 1, 1) := by decide +kernel
theorem dX0_orderBlocks_27 : decode cX0_orderBlocks 27 = .ok (.istore_n 3, 1) := by decide +kernel
theorem dX0_orderBlocks_28 : decode cX0_orderBlocks 28 = .ok (.aload_n 0, 1) := by decide +kernel
theorem dX0_orderBlocks_29 : decode cX0_orderBlocks 29 = .ok (.getfield 37, 3) := by decide +kernel
theorem dX0_orderBlocks_32 : decode cX0_orderBlocks 32 = .ok (.iconst 0, 1) := by decide +kernel
theorem dX0_orderBlocks_33 : decode cX0_orderBlocks 33 = .ok (.iconst 0, 1) := by decide +kernel
theorem dX0_orderBlocks_34 : decode cX0_orderBlocks 34 = .ok (.iastore, 1) := by decide +kernel
theorem dX0_orderBlocks_35 : decode cX0_orderBlocks 35 = .ok (.aload_n 0, 1) := by decide +kernel
theorem dX0_orderBlocks_36 : decode cX0_orderBlocks 36 = .ok (.getfield 40, 3) := by decide +kernel
theorem dX0_orderBlocks_39 : decode cX0_orderBlocks 39 = .ok (.iconst 0, 1) := by decide +kernel
theorem dX0_orderBlocks_40 : decode cX0_orderBlocks 40 = .ok (.iconst 0, 1) := by decide +kernel
theorem dX0_orderBlocks_41 : decode cX0_orderBlocks 41 = .ok (.iastore, 1) := by decide +kernel
theorem dX0_orderBlocks_42 : decode cX0_orderBlocks 42 = .ok (.iconst 0, 1) := by decide +kernel
theorem dX0_orderBlocks_43 : decode cX0_orderBlocks 43 = .ok (.istore 4, 2) := by decide +kernel
theorem dX0_orderBlocks_45 : decode cX0_orderBlocks 45 = .ok (.iload 4, 2) := by decide +kernel
theorem dX0_orderBlocks_47 : decode cX0_orderBlocks 47 = .ok (.bipush 40, 2) := by decide +kernel
theorem dX0_orderBlocks_49 : decode cX0_orderBlocks 49 = .ok (.if_icmp .ge 141, 3) := by decide +kernel
theorem dX0_orderBlocks_52 : decode cX0_orderBlocks 52 = .ok (.iload_n 3, 1) := by decide +kernel
theorem dX0_orderBlocks_53 : decode cX0_orderBlocks 53 = .ok (.ifCond .le 137, 3) := by decide +kernel
theorem dX0_orderBlocks_56 : decode cX0_orderBlocks 56 = .ok (.aload_n 0, 1) := by decide +kernel
theorem dX0_orderBlocks_57 : decode cX0_orderBlocks 57 = .ok (.getfield 37, 3) := by decide +kernel
theorem dX0_orderBlocks_60 : decode cX0_orderBlocks 60 = .ok (.iload_n 3, 1) := by decide +kernel
theorem dX0_orderBlocks_61 : decode cX0_orderBlocks 61 = .ok (.iconst 1, 1) := by decide +kernel
theorem dX0_orderBlocks_62 : decode cX0_orderBlocks 62 = .ok (.isub, 1) := by decide +kernel
theorem dX0_orderBlocks_63 : decode cX0_orderBlocks 63 = .ok (.iaload, 1) := by decide +kernel
theorem dX0_orderBlocks_64 : decode cX0_orderBlocks 64 = .ok (.istore 5, 2) := by decide +kernel
theorem dX0_orderBlocks_66 : decode cX0_orderBlocks 66 = .ok (.aload_n 0, 1) := by decide +kernel
theorem dX0_orderBlocks_67 : decode cX0_orderBlocks 67 = .ok (.getfield 40, 3) := by decide +kernel
theorem dX0_orderBlocks_70 : decode cX0_orderBlocks 70 = .ok (.iload_n 3, 1) := by decide +kernel
theorem dX0_orderBlocks_71 : decode cX0_orderBlocks 71 = .ok (.iconst 1, 1) := by decide +kernel
theorem dX0_orderBlocks_72 : decode cX0_orderBlocks 72 = .ok (.isub, 1) := by decide +kernel
theorem dX0_orderBlocks_73 : decode cX0_orderBlocks 73 = .ok (.iaload, 1) := by decide +kernel
theorem dX0_orderBlocks_74 : decode cX0_orderBlocks 74 = .ok (.istore 6, 2) := by decide +kernel
theorem dX0_orderBlocks_76 : decode cX0_orderBlocks 76 = .ok (.aload_n 0, 1) := by decide +kernel
theorem dX0_orderBlocks_77 : decode cX0_orderBlocks 77 = .ok (.getfield 40, 3) := by decide +kernel
theorem dX0_orderBlocks_80 : decode cX0_orderBlocks 80 = .ok (.iload_n 3, 1) := by decide +kernel
theorem dX0_orderBlocks_81 : decode cX0_orderBlocks 81 = .ok (.iconst 1, 1) := by decide +kernel
theorem dX0_orderBlocks_82 : decode cX0_orderBlocks 82 = .ok (.isub, 1) := by decide +kernel
theorem dX0_orderBlocks_83 : decode cX0_orderBlocks 83 = .ok (.dup2, 1) := by decide +kernel
theorem dX0_orderBlocks_84 : decode cX0_orderBlocks 84 = .ok (.iaload, 1) := by decide +kernel
theorem dX0_orderBlocks_85 : decode cX0_orderBlocks 85 = .ok (.iconst 1, 1) := by decide +kernel
theorem dX0_orderBlocks_86 : decode cX0_orderBlocks 86 = .ok (.iadd, 1) := by decide +kernel
theorem dX0_orderBlocks_87 : decode cX0_orderBlocks 87 = .ok (.iastore, 1) := by decide +kernel
theorem dX0_orderBlocks_88 : decode cX0_orderBlocks 88 = .ok (.iload 6, 2) := by decide +kernel
theorem dX0_orderBlocks_90 : decode cX0_orderBlocks 90 = .ok (.ifCond .ne 13, 3) := by decide +kernel
theorem dX0_orderBlocks_93 : decode cX0_orderBlocks 93 = .ok (.aload_n 0, 1) := by decide +kernel
theorem dX0_orderBlocks_94 : decode cX0_orderBlocks 94 = .ok (.getfield 25, 3) := by decide +kernel
theorem dX0_orderBlocks_97 : decode cX0_orderBlocks 97 = .ok (.iload 5, 2) := by decide +kernel
theorem dX0_orderBlocks_99 : decode cX0_orderBlocks 99 = .ok (.iaload, 1) := by decide +kernel
theorem dX0_orderBlocks_100 : decode cX0_orderBlocks 100 = .ok (.goto 20, 3) := by decide +kernel
theorem dX0_orderBlocks_103 : decode cX0_orderBlocks 103 = .ok (.iload 6, 2) := by decide +kernel
theorem dX0_orderBlocks_105 : decode cX0_orderBlocks 105 = .ok (.iconst 1, 1) := by decide +kernel
theorem dX0_orderBlocks_106 : decode cX0_orderBlocks 106 = .ok (.if_icmp .ne 13, 3) := by decide +kernel
theorem dX0_orderBlocks_109 : decode cX0_orderBlocks 109 = .ok (.aload_n 0, 1) := by decide +kernel
theorem dX0_orderBlocks_110 : decode cX0_orderBlocks 110 = .ok (.getfield 28, 3) := by decide +kernel
theorem dX0_orderBlocks_113 : decode cX0_orderBlocks 113 = .ok (.iload 5, 2) := by decide +kernel
theorem dX0_orderBlocks_115 : decode cX0_orderBlocks 115 = .ok (.iaload, 1) := by decide +kernel
theorem dX0_orderBlocks_116 : decode cX0_orderBlocks 116 = .ok (.goto 4, 3) := by decide +kernel
theorem dX0_orderBlocks_119 : decode cX0_orderBlocks 119 = .ok (.iconst (-1), 1) := by decide +kernel
theorem dX0_orderBlocks_120 : decode cX0_orderBlocks 120 = .ok (.istore 7, 2) := by decide +kernel
theorem dX0_orderBlocks_122 : decode cX0_orderBlocks 122 = .ok (.iload 6, 2) := by decide +kernel
theorem dX0_orderBlocks_124 : decode cX0_orderBlocks 124 = .ok (.iconst 2, 1) := by decide +kernel
theorem dX0_orderBlocks_125 : decode cX0_orderBlocks 125 = .ok (.if_icmp .ne 20, 3) := by decide +kernel
theorem dX0_orderBlocks_128 : decode cX0_orderBlocks 128 = .ok (.iinc 1 (-1), 3) := by decide +kernel
theorem dX0_orderBlocks_131 : decode cX0_orderBlocks 131 = .ok (.aload_n 0, 1) := by decide +kernel
theorem dX0_orderBlocks_132 : decode cX0_orderBlocks 132 = .ok (.getfield 31, 3) := by decide +kernel
theorem dX0_orderBlocks_135 : decode cX0_orderBlocks 135 = .ok (.iload_n 1, 1) := by decide +kernel
theorem dX0_orderBlocks_136 : decode cX0_orderBlocks 136 = .ok (.iload 5, 2) := by decide +kernel
theorem dX0_orderBlocks_138 : decode cX0_orderBlocks 138 = .ok (.iastore, 1) := by decide +kernel
theorem dX0_orderBlocks_139 : decode cX0_orderBlocks 139 = .ok (.iinc 3 (-1), 3) := by decide +kernel
theorem dX0_orderBlocks_142 : decode cX0_orderBlocks 142 = .ok (.goto 42, 3) := by decide +kernel
theorem dX0_orderBlocks_145 : decode cX0_orderBlocks 145 = .ok (.iload 7, 2) := by decide +kernel
theorem dX0_orderBlocks_147 : decode cX0_orderBlocks 147 = .ok (.ifCond .lt 37, 3) := by decide +kernel
theorem dX0_orderBlocks_150 : decode cX0_orderBlocks 150 = .ok (.iload_n 2, 1) := by decide +kernel
theorem dX0_orderBlocks_151 : decode cX0_orderBlocks 151 = .ok (.iload 7, 2) := by decide +kernel
theorem dX0_orderBlocks_153 : decode cX0_orderBlocks 153 = .ok (.ishr, 1) := by decide +kernel
theorem dX0_orderBlocks_154 : decode cX0_orderBlocks 154 = .ok (.iconst 1, 1) := by decide +kernel
theorem dX0_orderBlocks_155 : decode cX0_orderBlocks 155 = .ok (.iand, 1) := by decide +kernel
theorem dX0_orderBlocks_156 : decode cX0_orderBlocks 156 = .ok (.ifCond .ne 28, 3) := by decide +kernel
theorem dX0_orderBlocks_159 : decode cX0_orderBlocks 159 = .ok (.iload_n 2, 1) := by decide +kernel
theorem dX0_orderBlocks_160 : decode cX0_orderBlocks 160 = .ok (.iconst 1, 1) := by decide +kernel
theorem dX0_orderBlocks_161 : decode cX0_orderBlocks 161 = .ok (.iload 7, 2) := by decide +kernel
theorem dX0_orderBlocks_163 : decode cX0_orderBlocks 163 = .ok (.ishl, 1) := by decide +kernel
theorem dX0_orderBlocks_164 : decode cX0_orderBlocks 164 = .ok (.ior, 1) := by decide +kernel
theorem dX0_orderBlocks_165 : decode cX0_orderBlocks 165 = .ok (.istore_n 2, 1) := by decide +kernel
theorem dX0_orderBlocks_166 : decode cX0_orderBlocks 166 = .ok (.aload_n 0, 1) := by decide +kernel
theorem dX0_orderBlocks_167 : decode cX0_orderBlocks 167 = .ok (.getfield 37, 3) := by decide +kernel
theorem dX0_orderBlocks_170 : decode cX0_orderBlocks 170 = .ok (.iload_n 3, 1) := by decide +kernel
theorem dX0_orderBlocks_171 : decode cX0_orderBlocks 171 = .ok (.iload 7, 2) := by decide +kernel
theorem dX0_orderBlocks_173 : decode cX0_orderBlocks 173 = .ok (.iastore, 1) := by decide +kernel
theorem dX0_orderBlocks_174 : decode cX0_orderBlocks 174 = .ok (.aload_n 0, 1) := by decide +kernel
theorem dX0_orderBlocks_175 : decode cX0_orderBlocks 175 = .ok (.getfield 40, 3) := by decide +kernel
theorem dX0_orderBlocks_178 : decode cX0_orderBlocks 178 = .ok (.iload_n 3, 1) := by decide +kernel
theorem dX0_orderBlocks_179 : decode cX0_orderBlocks 179 = .ok (.iconst 0, 1) := by decide +kernel
theorem dX0_orderBlocks_180 : decode cX0_orderBlocks 180 = .ok (.iastore, 1) := by decide +kernel
theorem dX0_orderBlocks_181 : decode cX0_orderBlocks 181 = .ok (.iinc 3 1, 3) := by decide +kernel
theorem dX0_orderBlocks_184 : decode cX0_orderBlocks 184 = .ok (.iinc 4 1, 3) := by decide +kernel
theorem dX0_orderBlocks_187 : decode cX0_orderBlocks 187 = .ok (.goto (-142), 3) := by decide +kernel
theorem dX0_orderBlocks_190 : decode cX0_orderBlocks 190 = .ok (.aload_n 0, 1) := by decide +kernel
theorem dX0_orderBlocks_191 : decode cX0_orderBlocks 191 = .ok (.bipush 10, 2) := by decide +kernel
theorem dX0_orderBlocks_193 : decode cX0_orderBlocks 193 = .ok (.iload_n 1, 1) := by decide +kernel
theorem dX0_orderBlocks_194 : decode cX0_orderBlocks 194 = .ok (.isub, 1) := by decide +kernel
theorem dX0_orderBlocks_195 : decode cX0_orderBlocks 195 = .ok (.putfield 86, 3) := by decide +kernel
theorem dX0_orderBlocks_198 : decode cX0_orderBlocks 198 = .ok (.iconst 0, 1) := by decide +kernel
theorem dX0_orderBlocks_199 : decode cX0_orderBlocks 199 = .ok (.istore 4, 2) := by decide +kernel
theorem dX0_orderBlocks_201 : decode cX0_orderBlocks 201 = .ok (.iload 4, 2) := by decide +kernel
theorem dX0_orderBlocks_203 : decode cX0_orderBlocks 203 = .ok (.aload_n 0, 1) := by decide +kernel
theorem dX0_orderBlocks_204 : decode cX0_orderBlocks 204 = .ok (.getfield 86, 3) := by decide +kernel
theorem dX0_orderBlocks_207 : decode cX0_orderBlocks 207 = .ok (.if_icmp .ge 39, 3) := by decide +kernel
theorem dX0_orderBlocks_210 : decode cX0_orderBlocks 210 = .ok (.aload_n 0, 1) := by decide +kernel
theorem dX0_orderBlocks_211 : decode cX0_orderBlocks 211 = .ok (.getfield 31, 3) := by decide +kernel
theorem dX0_orderBlocks_214 : decode cX0_orderBlocks 214 = .ok (.iload 4, 2) := by decide +kernel
theorem dX0_orderBlocks_216 : decode cX0_orderBlocks 216 = .ok (.aload_n 0, 1) := by decide +kernel
theorem dX0_orderBlocks_217 : decode cX0_orderBlocks 217 = .ok (.getfield 31, 3) := by decide +kernel
theorem dX0_orderBlocks_220 : decode cX0_orderBlocks 220 = .ok (.iload_n 1, 1) := by decide +kernel
theorem dX0_orderBlocks_221 : decode cX0_orderBlocks 221 = .ok (.iload 4, 2) := by decide +kernel
theorem dX0_orderBlocks_223 : decode cX0_orderBlocks 223 = .ok (.iadd, 1) := by decide +kernel
theorem dX0_orderBlocks_224 : decode cX0_orderBlocks 224 = .ok (.iaload, 1) := by decide +kernel
theorem dX0_orderBlocks_225 : decode cX0_orderBlocks 225 = .ok (.iastore, 1) := by decide +kernel
theorem dX0_orderBlocks_226 : decode cX0_orderBlocks 226 = .ok (.aload_n 0, 1) := by decide +kernel
theorem dX0_orderBlocks_227 : decode cX0_orderBlocks 227 = .ok (.getfield 34, 3) := by decide +kernel
theorem dX0_orderBlocks_230 : decode cX0_orderBlocks 230 = .ok (.aload_n 0, 1) := by decide +kernel
theorem dX0_orderBlocks_231 : decode cX0_orderBlocks 231 = .ok (.getfield 31, 3) := by decide +kernel
theorem dX0_orderBlocks_234 : decode cX0_orderBlocks 234 = .ok (.iload 4, 2) := by decide +kernel
theorem dX0_orderBlocks_236 : decode cX0_orderBlocks 236 = .ok (.iaload, 1) := by decide +kernel
theorem dX0_orderBlocks_237 : decode cX0_orderBlocks 237 = .ok (.iload 4, 2) := by decide +kernel
theorem dX0_orderBlocks_239 : decode cX0_orderBlocks 239 = .ok (.iastore, 1) := by decide +kernel
theorem dX0_orderBlocks_240 : decode cX0_orderBlocks 240 = .ok (.iinc 4 1, 3) := by decide +kernel
theorem dX0_orderBlocks_243 : decode cX0_orderBlocks 243 = .ok (.goto (-42), 3) := by decide +kernel
theorem dX0_orderBlocks_246 : decode cX0_orderBlocks 246 = .ok (.return_, 1) := by decide +kernel
theorem dX0_findLoops_0 : decode cX0_findLoops 0 = .ok (.aload_n 0, 1) := by decide +kernel
theorem dX0_findLoops_1 : decode cX0_findLoops 1 = .ok (.iconst 0, 1) := by decide +kernel
theorem dX0_findLoops_2 : decode cX0_findLoops 2 = .ok (.putfield 89, 3) := by decide +kernel
theorem dX0_findLoops_5 : decode cX0_findLoops 5 = .ok (.iconst 0, 1) := by decide +kernel
theorem dX0_findLoops_6 : decode cX0_findLoops 6 = .ok (.istore_n 1, 1) := by decide +kernel
theorem dX0_findLoops_7 : decode cX0_findLoops 7 = .ok (.iload_n 1, 1) := by decide +kernel
theorem dX0_findLoops_8 : decode cX0_findLoops 8 = .ok (.aload_n 0, 1) := by decide +kernel
theorem dX0_findLoops_9 : decode cX0_findLoops 9 = .ok (.getfield 86, 3) := by decide +kernel
theorem dX0_findLoops_12 : decode cX0_findLoops 12 = .ok (.if_icmp .ge 83, 3) := by decide +kernel
theorem dX0_findLoops_15 : decode cX0_findLoops 15 = .ok (.aload_n 0, 1) := by decide +kernel
theorem dX0_findLoops_16 : decode cX0_findLoops 16 = .ok (.getfield 25, 3) := by decide +kernel
theorem dX0_findLoops_19 : decode cX0_findLoops 19 = .ok (.aload_n 0, 1) := by decide +kernel
theorem dX0_findLoops_20 : decode cX0_findLoops 20 = .ok (.getfield 31, 3) := by decide +kernel
theorem dX0_findLoops_23 : decode cX0_findLoops 23 = .ok (.iload_n 1, 1) := by decide +kernel
theorem dX0_findLoops_24 : decode cX0_findLoops 24 = .ok (.iaload, 1) := by decide +kernel
theorem dX0_findLoops_25 : decode cX0_findLoops 25 = .ok (.iaload, 1) := by decide +kernel
theorem dX0_findLoops_26 : decode cX0_findLoops 26 = .ok (.istore_n 2, 1) := by decide +kernel
theorem dX0_findLoops_27 : decode cX0_findLoops 27 = .ok (.aload_n 0, 1) := by decide +kernel
theorem dX0_findLoops_28 : decode cX0_findLoops 28 = .ok (.getfield 28, 3) := by decide +kernel
theorem dX0_findLoops_31 : decode cX0_findLoops 31 = .ok (.aload_n 0, 1) := by decide +kernel
theorem dX0_findLoops_32 : decode cX0_findLoops 32 = .ok (.getfield 31, 3) := by decide +kernel
theorem dX0_findLoops_35 : decode cX0_findLoops 35 = .ok (.iload_n 1, 1) := by decide +kernel
theorem dX0_findLoops_36 : decode cX0_findLoops 36 = .ok (.iaload, 1) := by decide +kernel
theorem dX0_findLoops_37 : decode cX0_findLoops 37 = .ok (.iaload, 1) := by decide +kernel
theorem dX0_findLoops_38 : decode cX0_findLoops 38 = .ok (.istore_n 3, 1) := by decide +kernel
theorem dX0_findLoops_39 : decode cX0_findLoops 39 = .ok (.iload_n 2, 1) := by decide +kernel
theorem dX0_findLoops_40 : decode cX0_findLoops 40 = .ok (.ifCond .lt 24, 3) := by decide +kernel
theorem dX0_findLoops_43 : decode cX0_findLoops 43 = .ok (.aload_n 0, 1) := by decide +kernel
theorem dX0_findLoops_44 : decode cX0_findLoops 44 = .ok (.getfield 34, 3) := by decide +kernel
theorem dX0_findLoops_47 : decode cX0_findLoops 47 = .ok (.iload_n 2, 1) := by decide +kernel
theorem dX0_findLoops_48 : decode cX0_findLoops 48 = .ok (.iaload, 1) := by decide +kernel
theorem dX0_findLoops_49 : decode cX0_findLoops 49 = .ok (.iload_n 1, 1) := by decide +kernel
theorem dX0_findLoops_50 : decode cX0_findLoops 50 = .ok (.if_icmp .gt 14, 3) := by decide +kernel
theorem dX0_findLoops_53 : decode cX0_findLoops 53 = .ok (.aload_n 0, 1) := by decide +kernel
theorem dX0_findLoops_54 : decode cX0_findLoops 54 = .ok (.aload_n 0, 1) := by decide +kernel
theorem dX0_findLoops_55 : decode cX0_findLoops 55 = .ok (.getfield 34, 3) := by decide +kernel
theorem dX0_findLoops_58 : decode cX0_findLoops 58 = .ok (.iload_n 2, 1) := by decide +kernel
theorem dX0_findLoops_59 : decode cX0_findLoops 59 = .ok (.iaload, 1) := by decide +kernel
theorem dX0_findLoops_60 : decode cX0_findLoops 60 = .ok (.iload_n 1, 1) := by decide +kernel
theorem dX0_findLoops_61 : decode cX0_findLoops 61 = .ok (.invokevirtual 92, 3) := by decide +kernel
theorem dX0_findLoops_64 : decode cX0_findLoops 64 = .ok (.iload_n 3, 1) := by decide +kernel
theorem dX0_findLoops_65 : decode cX0_findLoops 65 = .ok (.ifCond .lt 24, 3) := by decide +kernel
theorem dX0_findLoops_68 : decode cX0_findLoops 68 = .ok (.aload_n 0, 1) := by decide +kernel
theorem dX0_findLoops_69 : decode cX0_findLoops 69 = .ok (.getfield 34, 3) := by decide +kernel
theorem dX0_findLoops_72 : decode cX0_findLoops 72 = .ok (.iload_n 3, 1) := by decide +kernel
theorem dX0_findLoops_73 : decode cX0_findLoops 73 = .ok (.iaload, 1) := by decide +kernel
theorem dX0_findLoops_74 : decode cX0_findLoops 74 = .ok (.iload_n 1, 1) := by decide +kernel
theorem dX0_findLoops_75 : decode cX0_findLoops 75 = .ok (.if_icmp .gt 14, 3) := by decide +kernel
theorem dX0_findLoops_78 : decode cX0_findLoops 78 = .ok (.aload_n 0, 1) := by decide +kernel
theorem dX0_findLoops_79 : decode cX0_findLoops 79 = .ok (.aload_n 0, 1) := by decide +kernel
theorem dX0_findLoops_80 : decode cX0_findLoops 80 = .ok (.getfield 34, 3) := by decide +kernel
theorem dX0_findLoops_83 : decode cX0_findLoops 83 = .ok (.iload_n 3, 1) := by decide +kernel
theorem dX0_findLoops_84 : decode cX0_findLoops 84 = .ok (.iaload, 1) := by decide +kernel
theorem dX0_findLoops_85 : decode cX0_findLoops 85 = .ok (.iload_n 1, 1) := by decide +kernel
theorem dX0_findLoops_86 : decode cX0_findLoops 86 = .ok (.invokevirtual 92, 3) := by decide +kernel
theorem dX0_findLoops_89 : decode cX0_findLoops 89 = .ok (.iinc 1 1, 3) := by decide +kernel
theorem dX0_findLoops_92 : decode cX0_findLoops 92 = .ok (.goto (-85), 3) := by decide +kernel
theorem dX0_findLoops_95 : decode cX0_findLoops 95 = .ok (.return_, 1) := by decide +kernel
theorem dX0_addLoop_0 : decode cX0_addLoop 0 = .ok (.iconst 0, 1) := by decide +kernel
theorem dX0_addLoop_1 : decode cX0_addLoop 1 = .ok (.istore_n 3, 1) := by decide +kernel
theorem dX0_addLoop_2 : decode cX0_addLoop 2 = .ok (.iload_n 3, 1) := by decide +kernel
theorem dX0_addLoop_3 : decode cX0_addLoop 3 = .ok (.aload_n 0, 1) := by decide +kernel
theorem dX0_addLoop_4 : decode cX0_addLoop 4 = .ok (.getfield 89, 3) := by decide +kernel
theorem dX0_addLoop_7 : decode cX0_addLoop 7 = .ok (.if_icmp .ge 37, 3) := by decide +kernel
theorem dX0_addLoop_10 : decode cX0_addLoop 10 = .ok (.aload_n 0, 1) := by decide +kernel
theorem dX0_addLoop_11 : decode cX0_addLoop 11 = .ok (.getfield 43, 3) := by decide +kernel
theorem dX0_addLoop_14 : decode cX0_addLoop 14 = .ok (.iload_n 3, 1) := by decide +kernel
theorem dX0_addLoop_15 : decode cX0_addLoop 15 = .ok (.iaload, 1) := by decide +kernel
theorem dX0_addLoop_16 : decode cX0_addLoop 16 = .ok (.iload_n 1, 1) := by decide +kernel
theorem dX0_addLoop_17 : decode cX0_addLoop 17 = .ok (.if_icmp .ne 21, 3) := by decide +kernel
theorem dX0_addLoop_20 : decode cX0_addLoop 20 = .ok (.aload_n 0, 1) := by decide +kernel
theorem dX0_addLoop_21 : decode cX0_addLoop 21 = .ok (.getfield 46, 3) := by decide +kernel
theorem dX0_addLoop_24 : decode cX0_addLoop 24 = .ok (.iload_n 3, 1) := by decide +kernel
theorem dX0_addLoop_25 : decode cX0_addLoop 25 = .ok (.iaload, 1) := by decide +kernel
theorem dX0_addLoop_26 : decode cX0_addLoop 26 = .ok (.iload_n 2, 1) := by decide +kernel
theorem dX0_addLoop_27 : decode cX0_addLoop 27 = .ok (.if_icmp .ge 10, 3) := by decide +kernel
theorem dX0_addLoop_30 : decode cX0_addLoop 30 = .ok (.aload_n 0, 1) := by decide +kernel
theorem dX0_addLoop_31 : decode cX0_addLoop 31 = .ok (.getfield 46, 3) := by decide +kernel
theorem dX0_addLoop_34 : decode cX0_addLoop 34 = .ok (.iload_n 3, 1) := by decide +kernel
theorem dX0_addLoop_35 : decode cX0_addLoop 35 = .ok (.iload_n 2, 1) := by decide +kernel
theorem dX0_addLoop_36 : decode cX0_addLoop 36 = .ok (.iastore, 1) := by decide +kernel
theorem dX0_addLoop_37 : decode cX0_addLoop 37 = .ok (.return_, 1) := by decide +kernel
theorem dX0_addLoop_38 : decode cX0_addLoop 38 = .ok (.iinc 3 1, 3) := by decide +kernel
theorem dX0_addLoop_41 : decode cX0_addLoop 41 = .ok (.goto (-39), 3) := by decide +kernel
theorem dX0_addLoop_44 : decode cX0_addLoop 44 = .ok (.aload_n 0, 1) := by decide +kernel
theorem dX0_addLoop_45 : decode cX0_addLoop 45 = .ok (.getfield 43, 3) := by decide +kernel
theorem dX0_addLoop_48 : decode cX0_addLoop 48 = .ok (.aload_n 0, 1) := by decide +kernel
theorem dX0_addLoop_49 : decode cX0_addLoop 49 = .ok (.getfield 89, 3) := by decide +kernel
theorem dX0_addLoop_52 : decode cX0_addLoop 52 = .ok (.iload_n 1, 1) := by decide +kernel
theorem dX0_addLoop_53 : decode cX0_addLoop 53 = .ok (.iastore, 1) := by decide +kernel
theorem dX0_addLoop_54 : decode cX0_addLoop 54 = .ok (.aload_n 0, 1) := by decide +kernel
theorem dX0_addLoop_55 : decode cX0_addLoop 55 = .ok (.getfield 46, 3) := by decide +kernel
theorem dX0_addLoop_58 : decode cX0_addLoop 58 = .ok (.aload_n 0, 1) := by decide +kernel
theorem dX0_addLoop_59 : decode cX0_addLoop 59 = .ok (.getfield 89, 3) := by decide +kernel
theorem dX0_addLoop_62 : decode cX0_addLoop 62 = .ok (.iload_n 2, 1) := by decide +kernel
theorem dX0_addLoop_63 : decode cX0_addLoop 63 = .ok (.iastore, 1) := by decide +kernel
theorem dX0_addLoop_64 : decode cX0_addLoop 64 = .ok (.aload_n 0, 1) := by decide +kernel
theorem dX0_addLoop_65 : decode cX0_addLoop 65 = .ok (.dup, 1) := by decide +kernel
theorem dX0_addLoop_66 : decode cX0_addLoop 66 = .ok (.getfield 89, 3) := by decide +kernel
theorem dX0_addLoop_69 : decode cX0_addLoop 69 = .ok (.iconst 1, 1) := by decide +kernel
theorem dX0_addLoop_70 : decode cX0_addLoop 70 = .ok (.iadd, 1) := by decide +kernel
theorem dX0_addLoop_71 : decode cX0_addLoop 71 = .ok (.putfield 89, 3) := by decide +kernel
theorem dX0_addLoop_74 : decode cX0_addLoop 74 = .ok (.return_, 1) := by decide +kernel
theorem dX0_widenOnce_0 : decode cX0_widenOnce 0 = .ok (.iconst 0, 1) := by decide +kernel
theorem dX0_widenOnce_1 : decode cX0_widenOnce 1 = .ok (.istore_n 1, 1) := by decide +kernel
theorem dX0_widenOnce_2 : decode cX0_widenOnce 2 = .ok (.iconst 0, 1) := by decide +kernel
theorem dX0_widenOnce_3 : decode cX0_widenOnce 3 = .ok (.istore_n 2, 1) := by decide +kernel
theorem dX0_widenOnce_4 : decode cX0_widenOnce 4 = .ok (.iload_n 2, 1) := by decide +kernel
theorem dX0_widenOnce_5 : decode cX0_widenOnce 5 = .ok (.aload_n 0, 1) := by decide +kernel
theorem dX0_widenOnce_6 : decode cX0_widenOnce 6 = .ok (.getfield 89, 3) := by decide +kernel
theorem dX0_widenOnce_9 : decode cX0_widenOnce 9 = .ok (.if_icmp .ge 84, 3) := by decide +kernel
theorem dX0_widenOnce_12 : decode cX0_widenOnce 12 = .ok (.iconst 0, 1) := by decide +kernel
theorem dX0_widenOnce_13 : decode cX0_widenOnce 13 = .ok (.istore_n 3, 1) := by decide +kernel
theorem dX0_widenOnce_14 : decode cX0_widenOnce 14 = .ok (.iload_n 3, 1) := by decide +kernel
theorem dX0_widenOnce_15 : decode cX0_widenOnce 15 = .ok (.aload_n 0, 1) := by decide +kernel
theorem dX0_widenOnce_16 : decode cX0_widenOnce 16 = .ok (.getfield 89, 3) := by decide +kernel
theorem dX0_widenOnce_19 : decode cX0_widenOnce 19 = .ok (.if_icmp .ge 68, 3) := by decide +kernel
theorem dX0_widenOnce_22 : decode cX0_widenOnce 22 = .ok (.aload_n 0, 1) := by decide +kernel
theorem dX0_widenOnce_23 : decode cX0_widenOnce 23 = .ok (.getfield 43, 3) := by decide +kernel
theorem dX0_widenOnce_26 : decode cX0_widenOnce 26 = .ok (.iload_n 2, 1) := by decide +kernel
theorem dX0_widenOnce_27 : decode cX0_widenOnce 27 = .ok (.iaload, 1) := by decide +kernel
theorem dX0_widenOnce_28 : decode cX0_widenOnce 28 = .ok (.aload_n 0, 1) := by decide +kernel
theorem dX0_widenOnce_29 : decode cX0_widenOnce 29 = .ok (.getfield 43, 3) := by decide +kernel
theorem dX0_widenOnce_32 : decode cX0_widenOnce 32 = .ok (.iload_n 3, 1) := by decide +kernel
theorem dX0_widenOnce_33 : decode cX0_widenOnce 33 = .ok (.iaload, 1) := by decide +kernel
theorem dX0_widenOnce_34 : decode cX0_widenOnce 34 = .ok (.if_icmp .ge 47, 3) := by decide +kernel
theorem dX0_widenOnce_37 : decode cX0_widenOnce 37 = .ok (.aload_n 0, 1) := by decide +kernel
theorem dX0_widenOnce_38 : decode cX0_widenOnce 38 = .ok (.getfield 43, 3) := by decide +kernel
theorem dX0_widenOnce_41 : decode cX0_widenOnce 41 = .ok (.iload_n 3, 1) := by decide +kernel
theorem dX0_widenOnce_42 : decode cX0_widenOnce 42 = .ok (.iaload, 1) := by decide +kernel
theorem dX0_widenOnce_43 : decode cX0_widenOnce 43 = .ok (.aload_n 0, 1) := by decide +kernel
theorem dX0_widenOnce_44 : decode cX0_widenOnce 44 = .ok (.getfield 46, 3) := by decide +kernel
theorem dX0_widenOnce_47 : decode cX0_widenOnce 47 = .ok (.iload_n 2, 1) := by decide +kernel
theorem dX0_widenOnce_48 : decode cX0_widenOnce 48 = .ok (.iaload, 1) := by decide +kernel
theorem dX0_widenOnce_49 : decode cX0_widenOnce 49 = .ok (.if_icmp .gt 32, 3) := by decide +kernel
theorem dX0_widenOnce_52 : decode cX0_widenOnce 52 = .ok (.aload_n 0, 1) := by decide +kernel
theorem dX0_widenOnce_53 : decode cX0_widenOnce 53 = .ok (.getfield 46, 3) := by decide +kernel
theorem dX0_widenOnce_56 : decode cX0_widenOnce 56 = .ok (.iload_n 2, 1) := by decide +kernel
theorem dX0_widenOnce_57 : decode cX0_widenOnce 57 = .ok (.iaload, 1) := by decide +kernel
theorem dX0_widenOnce_58 : decode cX0_widenOnce 58 = .ok (.aload_n 0, 1) := by decide +kernel
theorem dX0_widenOnce_59 : decode cX0_widenOnce 59 = .ok (.getfield 46, 3) := by decide +kernel
theorem dX0_widenOnce_62 : decode cX0_widenOnce 62 = .ok (.iload_n 3, 1) := by decide +kernel
theorem dX0_widenOnce_63 : decode cX0_widenOnce 63 = .ok (.iaload, 1) := by decide +kernel
theorem dX0_widenOnce_64 : decode cX0_widenOnce 64 = .ok (.if_icmp .ge 17, 3) := by decide +kernel
theorem dX0_widenOnce_67 : decode cX0_widenOnce 67 = .ok (.aload_n 0, 1) := by decide +kernel
theorem dX0_widenOnce_68 : decode cX0_widenOnce 68 = .ok (.getfield 46, 3) := by decide +kernel
theorem dX0_widenOnce_71 : decode cX0_widenOnce 71 = .ok (.iload_n 2, 1) := by decide +kernel
theorem dX0_widenOnce_72 : decode cX0_widenOnce 72 = .ok (.aload_n 0, 1) := by decide +kernel
theorem dX0_widenOnce_73 : decode cX0_widenOnce 73 = .ok (.getfield 46, 3) := by decide +kernel
theorem dX0_widenOnce_76 : decode cX0_widenOnce 76 = .ok (.iload_n 3, 1) := by decide +kernel
theorem dX0_widenOnce_77 : decode cX0_widenOnce 77 = .ok (.iaload, 1) := by decide +kernel
theorem dX0_widenOnce_78 : decode cX0_widenOnce 78 = .ok (.iastore, 1) := by decide +kernel
theorem dX0_widenOnce_79 : decode cX0_widenOnce 79 = .ok (.iconst 1, 1) := by decide +kernel
theorem dX0_widenOnce_80 : decode cX0_widenOnce 80 = .ok (.istore_n 1, 1) := by decide +kernel
theorem dX0_widenOnce_81 : decode cX0_widenOnce 81 = .ok (.iinc 3 1, 3) := by decide +kernel
theorem dX0_widenOnce_84 : decode cX0_widenOnce 84 = .ok (.goto (-70), 3) := by decide +kernel
theorem dX0_widenOnce_87 : decode cX0_widenOnce 87 = .ok (.iinc 2 1, 3) := by decide +kernel
theorem dX0_widenOnce_90 : decode cX0_widenOnce 90 = .ok (.goto (-86), 3) := by decide +kernel
theorem dX0_widenOnce_93 : decode cX0_widenOnce 93 = .ok (.iload_n 1, 1) := by decide +kernel
theorem dX0_widenOnce_94 : decode cX0_widenOnce 94 = .ok (.ireturn, 1) := by decide +kernel
theorem dX0_emit_0 : decode cX0_emit 0 = .ok (.aload_n 0, 1) := by decide +kernel
theorem dX0_emit_1 : decode cX0_emit 1 = .ok (.iconst 0, 1) := by decide +kernel
theorem dX0_emit_2 : decode cX0_emit 2 = .ok (.putfield 96, 3) := by decide +kernel
theorem dX0_emit_5 : decode cX0_emit 5 = .ok (.iconst 0, 1) := by decide +kernel
theorem dX0_emit_6 : decode cX0_emit 6 = .ok (.istore_n 1, 1) := by decide +kernel
theorem dX0_emit_7 : decode cX0_emit 7 = .ok (.iload_n 1, 1) := by decide +kernel
theorem dX0_emit_8 : decode cX0_emit 8 = .ok (.aload_n 0, 1) := by decide +kernel
theorem dX0_emit_9 : decode cX0_emit 9 = .ok (.getfield 86, 3) := by decide +kernel
theorem dX0_emit_12 : decode cX0_emit 12 = .ok (.if_icmp .ge 75, 3) := by decide +kernel
theorem dX0_emit_15 : decode cX0_emit 15 = .ok (.iconst 0, 1) := by decide +kernel
theorem dX0_emit_16 : decode cX0_emit 16 = .ok (.istore_n 2, 1) := by decide +kernel
theorem dX0_emit_17 : decode cX0_emit 17 = .ok (.iload_n 2, 1) := by decide +kernel
theorem dX0_emit_18 : decode cX0_emit 18 = .ok (.aload_n 0, 1) := by decide +kernel
theorem dX0_emit_19 : decode cX0_emit 19 = .ok (.getfield 89, 3) := by decide +kernel
theorem dX0_emit_22 : decode cX0_emit 22 = .ok (.if_icmp .ge 35, 3) := by decide +kernel
theorem dX0_emit_25 : decode cX0_emit 25 = .ok (.aload_n 0, 1) := by decide +kernel
theorem dX0_emit_26 : decode cX0_emit 26 = .ok (.getfield 43, 3) := by decide +kernel
theorem dX0_emit_29 : decode cX0_emit 29 = .ok (.iload_n 2, 1) := by decide +kernel
theorem dX0_emit_30 : decode cX0_emit 30 = .ok (.iaload, 1) := by decide +kernel
theorem dX0_emit_31 : decode cX0_emit 31 = .ok (.iload_n 1, 1) := by decide +kernel
theorem dX0_emit_32 : decode cX0_emit 32 = .ok (.if_icmp .ne 19, 3) := by decide +kernel
theorem dX0_emit_35 : decode cX0_emit 35 = .ok (.aload_n 0, 1) := by decide +kernel
theorem dX0_emit_36 : decode cX0_emit 36 = .ok (.getfield 55, 3) := by decide +kernel
theorem dX0_emit_39 : decode cX0_emit 39 = .ok (.iload_n 2, 1) := by decide +kernel
theorem dX0_emit_40 : decode cX0_emit 40 = .ok (.aload_n 0, 1) := by decide +kernel
theorem dX0_emit_41 : decode cX0_emit 41 = .ok (.getfield 96, 3) := by decide +kernel
theorem dX0_emit_44 : decode cX0_emit 44 = .ok (.iastore, 1) := by decide +kernel
theorem dX0_emit_45 : decode cX0_emit 45 = .ok (.aload_n 0, 1) := by decide +kernel
theorem dX0_emit_46 : decode cX0_emit 46 = .ok (.iconst 0, 1) := by decide +kernel
theorem dX0_emit_47 : decode cX0_emit 47 = .ok (.iload_n 2, 1) := by decide +kernel
theorem dX0_emit_48 : decode cX0_emit 48 = .ok (.invokevirtual 99, 3) := by decide +kernel
theorem dX0_emit_51 : decode cX0_emit 51 = .ok (.iinc 2 1, 3) := by decide +kernel
theorem dX0_emit_54 : decode cX0_emit 54 = .ok (.goto (-37), 3) := by decide +kernel
theorem dX0_emit_57 : decode cX0_emit 57 = .ok (.aload_n 0, 1) := by decide +kernel
end
section
set_option maxRecDepth 100000
theorem dX0_emit_58 : decode cX0_emit 58 = .ok (.iconst 1, 1) := by decide +kernel
theorem dX0_emit_59 : decode cX0_emit 59 = .ok (.iload_n 1, 1) := by decide +kernel
theorem dX0_emit_60 : decode cX0_emit 60 = .ok (.invokevirtual 99, 3) := by decide +kernel
theorem dX0_emit_63 : decode cX0_emit 63 = .ok (.iload_n 1, 1) := by decide +kernel
theorem dX0_emit_64 : decode cX0_emit 64 = .ok (.istore_n 2, 1) := by decide +kernel
theorem dX0_emit_65 : decode cX0_emit 65 = .ok (.iload_n 2, 1) := by decide +kernel
theorem dX0_emit_66 : decode cX0_emit 66 = .ok (.ifCond .lt 15, 3) := by decide +kernel
theorem dX0_emit_69 : decode cX0_emit 69 = .ok (.aload_n 0, 1) := by decide +kernel
theorem dX0_emit_70 : decode cX0_emit 70 = .ok (.iload_n 2, 1) := by decide +kernel
theorem dX0_emit_71 : decode cX0_emit 71 = .ok (.iload_n 1, 1) := by decide +kernel
theorem dX0_emit_72 : decode cX0_emit 72 = .ok (.invokevirtual 102, 3) := by decide +kernel
theorem dX0_emit_75 : decode cX0_emit 75 = .ok (.iinc 2 (-1), 3) := by decide +kernel
theorem dX0_emit_78 : decode cX0_emit 78 = .ok (.goto (-13), 3) := by decide +kernel
theorem dX0_emit_81 : decode cX0_emit 81 = .ok (.iinc 1 1, 3) := by decide +kernel
theorem dX0_emit_84 : decode cX0_emit 84 = .ok (.goto (-77), 3) := by decide +kernel
theorem dX0_emit_87 : decode cX0_emit 87 = .ok (.return_, 1) := by decide +kernel
theorem dX0_put_0 : decode cX0_put 0 = .ok (.aload_n 0, 1) := by decide +kernel
theorem dX0_put_1 : decode cX0_put 1 = .ok (.getfield 96, 3) := by decide +kernel
theorem dX0_put_4 : decode cX0_put 4 = .ok (.bipush 64, 2) := by decide +kernel
theorem dX0_put_6 : decode cX0_put 6 = .ok (.if_icmp .lt 4, 3) := by decide +kernel
theorem dX0_put_9 : decode cX0_put 9 = .ok (.return_, 1) := by decide +kernel
theorem dX0_put_10 : decode cX0_put 10 = .ok (.aload_n 0, 1) := by decide +kernel
theorem dX0_put_11 : decode cX0_put 11 = .ok (.getfield 49, 3) := by decide +kernel
theorem dX0_put_14 : decode cX0_put 14 = .ok (.aload_n 0, 1) := by decide +kernel
theorem dX0_put_15 : decode cX0_put 15 = .ok (.getfield 96, 3) := by decide +kernel
theorem dX0_put_18 : decode cX0_put 18 = .ok (.iload_n 1, 1) := by decide +kernel
theorem dX0_put_19 : decode cX0_put 19 = .ok (.iastore, 1) := by decide +kernel
theorem dX0_put_20 : decode cX0_put 20 = .ok (.aload_n 0, 1) := by decide +kernel
theorem dX0_put_21 : decode cX0_put 21 = .ok (.getfield 52, 3) := by decide +kernel
theorem dX0_put_24 : decode cX0_put 24 = .ok (.aload_n 0, 1) := by decide +kernel
theorem dX0_put_25 : decode cX0_put 25 = .ok (.getfield 96, 3) := by decide +kernel
theorem dX0_put_28 : decode cX0_put 28 = .ok (.iload_n 2, 1) := by decide +kernel
theorem dX0_put_29 : decode cX0_put 29 = .ok (.iastore, 1) := by decide +kernel
theorem dX0_put_30 : decode cX0_put 30 = .ok (.aload_n 0, 1) := by decide +kernel
theorem dX0_put_31 : decode cX0_put 31 = .ok (.dup, 1) := by decide +kernel
theorem dX0_put_32 : decode cX0_put 32 = .ok (.getfield 96, 3) := by decide +kernel
theorem dX0_put_35 : decode cX0_put 35 = .ok (.iconst 1, 1) := by decide +kernel
theorem dX0_put_36 : decode cX0_put 36 = .ok (.iadd, 1) := by decide +kernel
theorem dX0_put_37 : decode cX0_put 37 = .ok (.putfield 96, 3) := by decide +kernel
theorem dX0_put_40 : decode cX0_put 40 = .ok (.return_, 1) := by decide +kernel
theorem dX0_endLoop_0 : decode cX0_endLoop 0 = .ok (.iconst 0, 1) := by decide +kernel
theorem dX0_endLoop_1 : decode cX0_endLoop 1 = .ok (.istore_n 3, 1) := by decide +kernel
theorem dX0_endLoop_2 : decode cX0_endLoop 2 = .ok (.iload_n 3, 1) := by decide +kernel
theorem dX0_endLoop_3 : decode cX0_endLoop 3 = .ok (.aload_n 0, 1) := by decide +kernel
theorem dX0_endLoop_4 : decode cX0_endLoop 4 = .ok (.getfield 89, 3) := by decide +kernel
theorem dX0_endLoop_7 : decode cX0_endLoop 7 = .ok (.if_icmp .ge 35, 3) := by decide +kernel
theorem dX0_endLoop_10 : decode cX0_endLoop 10 = .ok (.aload_n 0, 1) := by decide +kernel
theorem dX0_endLoop_11 : decode cX0_endLoop 11 = .ok (.getfield 43, 3) := by decide +kernel
theorem dX0_endLoop_14 : decode cX0_endLoop 14 = .ok (.iload_n 3, 1) := by decide +kernel
theorem dX0_endLoop_15 : decode cX0_endLoop 15 = .ok (.iaload, 1) := by decide +kernel
theorem dX0_endLoop_16 : decode cX0_endLoop 16 = .ok (.iload_n 1, 1) := by decide +kernel
theorem dX0_endLoop_17 : decode cX0_endLoop 17 = .ok (.if_icmp .ne 19, 3) := by decide +kernel
theorem dX0_endLoop_20 : decode cX0_endLoop 20 = .ok (.aload_n 0, 1) := by decide +kernel
theorem dX0_endLoop_21 : decode cX0_endLoop 21 = .ok (.getfield 46, 3) := by decide +kernel
theorem dX0_endLoop_24 : decode cX0_endLoop 24 = .ok (.iload_n 3, 1) := by decide +kernel
theorem dX0_endLoop_25 : decode cX0_endLoop 25 = .ok (.iaload, 1) := by decide +kernel
theorem dX0_endLoop_26 : decode cX0_endLoop 26 = .ok (.iload_n 2, 1) := by decide +kernel
theorem dX0_endLoop_27 : decode cX0_endLoop 27 = .ok (.if_icmp .ne 9, 3) := by decide +kernel
theorem dX0_endLoop_30 : decode cX0_endLoop 30 = .ok (.aload_n 0, 1) := by decide +kernel
theorem dX0_endLoop_31 : decode cX0_endLoop 31 = .ok (.iconst 2, 1) := by decide +kernel
theorem dX0_endLoop_32 : decode cX0_endLoop 32 = .ok (.iload_n 3, 1) := by decide +kernel
theorem dX0_endLoop_33 : decode cX0_endLoop 33 = .ok (.invokevirtual 99, 3) := by decide +kernel
theorem dX0_endLoop_36 : decode cX0_endLoop 36 = .ok (.iinc 3 1, 3) := by decide +kernel
theorem dX0_endLoop_39 : decode cX0_endLoop 39 = .ok (.goto (-37), 3) := by decide +kernel
theorem dX0_endLoop_42 : decode cX0_endLoop 42 = .ok (.return_, 1) := by decide +kernel
theorem dX0_perform_0 : decode cX0_perform 0 = .ok (.aload_n 0, 1) := by decide +kernel
theorem dX0_perform_1 : decode cX0_perform 1 = .ok (.getfield 49, 3) := by decide +kernel
theorem dX0_perform_4 : decode cX0_perform 4 = .ok (.iload_n 1, 1) := by decide +kernel
theorem dX0_perform_5 : decode cX0_perform 5 = .ok (.iaload, 1) := by decide +kernel
theorem dX0_perform_6 : decode cX0_perform 6 = .ok (.iconst 1, 1) := by decide +kernel
theorem dX0_perform_7 : decode cX0_perform 7 = .ok (.if_icmp .ne 25, 3) := by decide +kernel
theorem dX0_perform_10 : decode cX0_perform 10 = .ok (.aload_n 0, 1) := by decide +kernel
theorem dX0_perform_11 : decode cX0_perform 11 = .ok (.getfield 128, 3) := by decide +kernel
theorem dX0_perform_14 : decode cX0_perform 14 = .ok (.iload_n 2, 1) := by decide +kernel
theorem dX0_perform_15 : decode cX0_perform 15 = .ok (.if_icmp .ne 13, 3) := by decide +kernel
theorem dX0_perform_18 : decode cX0_perform 18 = .ok (.aload_n 0, 1) := by decide +kernel
theorem dX0_perform_19 : decode cX0_perform 19 = .ok (.aload_n 0, 1) := by decide +kernel
theorem dX0_perform_20 : decode cX0_perform 20 = .ok (.getfield 31, 3) := by decide +kernel
theorem dX0_perform_23 : decode cX0_perform 23 = .ok (.iload_n 2, 1) := by decide +kernel
theorem dX0_perform_24 : decode cX0_perform 24 = .ok (.iaload, 1) := by decide +kernel
theorem dX0_perform_25 : decode cX0_perform 25 = .ok (.invokevirtual 131, 3) := by decide +kernel
theorem dX0_perform_28 : decode cX0_perform 28 = .ok (.iload_n 1, 1) := by decide +kernel
theorem dX0_perform_29 : decode cX0_perform 29 = .ok (.iconst 1, 1) := by decide +kernel
theorem dX0_perform_30 : decode cX0_perform 30 = .ok (.iadd, 1) := by decide +kernel
theorem dX0_perform_31 : decode cX0_perform 31 = .ok (.ireturn, 1) := by decide +kernel
theorem dX0_perform_32 : decode cX0_perform 32 = .ok (.aload_n 0, 1) := by decide +kernel
theorem dX0_perform_33 : decode cX0_perform 33 = .ok (.getfield 49, 3) := by decide +kernel
theorem dX0_perform_36 : decode cX0_perform 36 = .ok (.iload_n 1, 1) := by decide +kernel
theorem dX0_perform_37 : decode cX0_perform 37 = .ok (.iaload, 1) := by decide +kernel
theorem dX0_perform_38 : decode cX0_perform 38 = .ok (.iconst 2, 1) := by decide +kernel
theorem dX0_perform_39 : decode cX0_perform 39 = .ok (.if_icmp .ne 38, 3) := by decide +kernel
theorem dX0_perform_42 : decode cX0_perform 42 = .ok (.aload_n 0, 1) := by decide +kernel
theorem dX0_perform_43 : decode cX0_perform 43 = .ok (.getfield 128, 3) := by decide +kernel
theorem dX0_perform_46 : decode cX0_perform 46 = .ok (.aload_n 0, 1) := by decide +kernel
theorem dX0_perform_47 : decode cX0_perform 47 = .ok (.getfield 43, 3) := by decide +kernel
theorem dX0_perform_50 : decode cX0_perform 50 = .ok (.iload_n 2, 1) := by decide +kernel
theorem dX0_perform_51 : decode cX0_perform 51 = .ok (.iaload, 1) := by decide +kernel
theorem dX0_perform_52 : decode cX0_perform 52 = .ok (.if_icmp .lt 25, 3) := by decide +kernel
theorem dX0_perform_55 : decode cX0_perform 55 = .ok (.aload_n 0, 1) := by decide +kernel
theorem dX0_perform_56 : decode cX0_perform 56 = .ok (.getfield 128, 3) := by decide +kernel
theorem dX0_perform_59 : decode cX0_perform 59 = .ok (.aload_n 0, 1) := by decide +kernel
theorem dX0_perform_60 : decode cX0_perform 60 = .ok (.getfield 46, 3) := by decide +kernel
theorem dX0_perform_63 : decode cX0_perform 63 = .ok (.iload_n 2, 1) := by decide +kernel
theorem dX0_perform_64 : decode cX0_perform 64 = .ok (.iaload, 1) := by decide +kernel
theorem dX0_perform_65 : decode cX0_perform 65 = .ok (.if_icmp .gt 12, 3) := by decide +kernel
theorem dX0_perform_68 : decode cX0_perform 68 = .ok (.aload_n 0, 1) := by decide +kernel
theorem dX0_perform_69 : decode cX0_perform 69 = .ok (.getfield 55, 3) := by decide +kernel
theorem dX0_perform_72 : decode cX0_perform 72 = .ok (.iload_n 2, 1) := by decide +kernel
theorem dX0_perform_73 : decode cX0_perform 73 = .ok (.iaload, 1) := by decide +kernel
theorem dX0_perform_74 : decode cX0_perform 74 = .ok (.iconst 1, 1) := by decide +kernel
theorem dX0_perform_75 : decode cX0_perform 75 = .ok (.iadd, 1) := by decide +kernel
theorem dX0_perform_76 : decode cX0_perform 76 = .ok (.ireturn, 1) := by decide +kernel
theorem dX0_perform_77 : decode cX0_perform 77 = .ok (.iload_n 1, 1) := by decide +kernel
theorem dX0_perform_78 : decode cX0_perform 78 = .ok (.iconst 1, 1) := by decide +kernel
theorem dX0_perform_79 : decode cX0_perform 79 = .ok (.iadd, 1) := by decide +kernel
theorem dX0_perform_80 : decode cX0_perform 80 = .ok (.ireturn, 1) := by decide +kernel
theorem dX0_enter_0 : decode cX0_enter 0 = .ok (.aload_n 0, 1) := by decide +kernel
theorem dX0_enter_1 : decode cX0_enter 1 = .ok (.dup, 1) := by decide +kernel
theorem dX0_enter_2 : decode cX0_enter 2 = .ok (.getfield 121, 3) := by decide +kernel
theorem dX0_enter_5 : decode cX0_enter 5 = .ok (.iconst 1, 1) := by decide +kernel
theorem dX0_enter_6 : decode cX0_enter 6 = .ok (.iadd, 1) := by decide +kernel
theorem dX0_enter_7 : decode cX0_enter 7 = .ok (.putfield 121, 3) := by decide +kernel
theorem dX0_enter_10 : decode cX0_enter 10 = .ok (.aload_n 0, 1) := by decide +kernel
theorem dX0_enter_11 : decode cX0_enter 11 = .ok (.getfield 61, 3) := by decide +kernel
theorem dX0_enter_14 : decode cX0_enter 14 = .ok (.iload_n 1, 1) := by decide +kernel
theorem dX0_enter_15 : decode cX0_enter 15 = .ok (.dup2, 1) := by decide +kernel
theorem dX0_enter_16 : decode cX0_enter 16 = .ok (.iaload, 1) := by decide +kernel
theorem dX0_enter_17 : decode cX0_enter 17 = .ok (.iconst 1, 1) := by decide +kernel
theorem dX0_enter_18 : decode cX0_enter 18 = .ok (.iadd, 1) := by decide +kernel
theorem dX0_enter_19 : decode cX0_enter 19 = .ok (.iastore, 1) := by decide +kernel
theorem dX0_enter_20 : decode cX0_enter 20 = .ok (.aload_n 0, 1) := by decide +kernel
theorem dX0_enter_21 : decode cX0_enter 21 = .ok (.iload_n 1, 1) := by decide +kernel
theorem dX0_enter_22 : decode cX0_enter 22 = .ok (.putfield 67, 3) := by decide +kernel
theorem dX0_enter_25 : decode cX0_enter 25 = .ok (.iload_n 1, 1) := by decide +kernel
theorem dX0_enter_26 : decode cX0_enter 26 = .ok (.iconst 3, 1) := by decide +kernel
theorem dX0_enter_27 : decode cX0_enter 27 = .ok (.imul, 1) := by decide +kernel
theorem dX0_enter_28 : decode cX0_enter 28 = .ok (.istore_n 2, 1) := by decide +kernel
theorem dX0_enter_29 : decode cX0_enter 29 = .ok (.iload_n 2, 1) := by decide +kernel
theorem dX0_enter_30 : decode cX0_enter 30 = .ok (.iload_n 1, 1) := by decide +kernel
theorem dX0_enter_31 : decode cX0_enter 31 = .ok (.iconst 3, 1) := by decide +kernel
theorem dX0_enter_32 : decode cX0_enter 32 = .ok (.imul, 1) := by decide +kernel
theorem dX0_enter_33 : decode cX0_enter 33 = .ok (.aload_n 0, 1) := by decide +kernel
theorem dX0_enter_34 : decode cX0_enter 34 = .ok (.getfield 7, 3) := by decide +kernel
theorem dX0_enter_37 : decode cX0_enter 37 = .ok (.iload_n 1, 1) := by decide +kernel
theorem dX0_enter_38 : decode cX0_enter 38 = .ok (.iaload, 1) := by decide +kernel
theorem dX0_enter_39 : decode cX0_enter 39 = .ok (.iadd, 1) := by decide +kernel
theorem dX0_enter_40 : decode cX0_enter 40 = .ok (.if_icmp .ge 14, 3) := by decide +kernel
theorem dX0_enter_43 : decode cX0_enter 43 = .ok (.aload_n 0, 1) := by decide +kernel
theorem dX0_enter_44 : decode cX0_enter 44 = .ok (.iload_n 2, 1) := by decide +kernel
theorem dX0_enter_45 : decode cX0_enter 45 = .ok (.invokevirtual 124, 3) := by decide +kernel
theorem dX0_enter_48 : decode cX0_enter 48 = .ok (.iinc 2 1, 3) := by decide +kernel
theorem dX0_enter_51 : decode cX0_enter 51 = .ok (.goto (-22), 3) := by decide +kernel
theorem dX0_enter_54 : decode cX0_enter 54 = .ok (.aload_n 0, 1) := by decide +kernel
theorem dX0_enter_55 : decode cX0_enter 55 = .ok (.getfield 25, 3) := by decide +kernel
theorem dX0_enter_58 : decode cX0_enter 58 = .ok (.iload_n 1, 1) := by decide +kernel
theorem dX0_enter_59 : decode cX0_enter 59 = .ok (.iaload, 1) := by decide +kernel
theorem dX0_enter_60 : decode cX0_enter 60 = .ok (.istore_n 2, 1) := by decide +kernel
theorem dX0_enter_61 : decode cX0_enter 61 = .ok (.aload_n 0, 1) := by decide +kernel
theorem dX0_enter_62 : decode cX0_enter 62 = .ok (.getfield 22, 3) := by decide +kernel
theorem dX0_enter_65 : decode cX0_enter 65 = .ok (.iload_n 1, 1) := by decide +kernel
theorem dX0_enter_66 : decode cX0_enter 66 = .ok (.iaload, 1) := by decide +kernel
theorem dX0_enter_67 : decode cX0_enter 67 = .ok (.ifCond .lt 24, 3) := by decide +kernel
theorem dX0_enter_70 : decode cX0_enter 70 = .ok (.aload_n 0, 1) := by decide +kernel
theorem dX0_enter_71 : decode cX0_enter 71 = .ok (.getfield 58, 3) := by decide +kernel
theorem dX0_enter_74 : decode cX0_enter 74 = .ok (.aload_n 0, 1) := by decide +kernel
theorem dX0_enter_75 : decode cX0_enter 75 = .ok (.getfield 22, 3) := by decide +kernel
theorem dX0_enter_78 : decode cX0_enter 78 = .ok (.iload_n 1, 1) := by decide +kernel
theorem dX0_enter_79 : decode cX0_enter 79 = .ok (.iaload, 1) := by decide +kernel
theorem dX0_enter_80 : decode cX0_enter 80 = .ok (.iaload, 1) := by decide +kernel
theorem dX0_enter_81 : decode cX0_enter 81 = .ok (.ifCond .gt 10, 3) := by decide +kernel
theorem dX0_enter_84 : decode cX0_enter 84 = .ok (.aload_n 0, 1) := by decide +kernel
theorem dX0_enter_85 : decode cX0_enter 85 = .ok (.getfield 28, 3) := by decide +kernel
theorem dX0_enter_88 : decode cX0_enter 88 = .ok (.iload_n 1, 1) := by decide +kernel
theorem dX0_enter_89 : decode cX0_enter 89 = .ok (.iaload, 1) := by decide +kernel
theorem dX0_enter_90 : decode cX0_enter 90 = .ok (.istore_n 2, 1) := by decide +kernel
theorem dX0_enter_91 : decode cX0_enter 91 = .ok (.aload_n 0, 1) := by decide +kernel
theorem dX0_enter_92 : decode cX0_enter 92 = .ok (.iload_n 2, 1) := by decide +kernel
theorem dX0_enter_93 : decode cX0_enter 93 = .ok (.ifCond .ge 7, 3) := by decide +kernel
theorem dX0_enter_96 : decode cX0_enter 96 = .ok (.iconst (-1), 1) := by decide +kernel
theorem dX0_enter_97 : decode cX0_enter 97 = .ok (.goto 9, 3) := by decide +kernel
theorem dX0_enter_100 : decode cX0_enter 100 = .ok (.aload_n 0, 1) := by decide +kernel
theorem dX0_enter_101 : decode cX0_enter 101 = .ok (.getfield 34, 3) := by decide +kernel
theorem dX0_enter_104 : decode cX0_enter 104 = .ok (.iload_n 2, 1) := by decide +kernel
theorem dX0_enter_105 : decode cX0_enter 105 = .ok (.iaload, 1) := by decide +kernel
theorem dX0_enter_106 : decode cX0_enter 106 = .ok (.putfield 128, 3) := by decide +kernel
theorem dX0_enter_109 : decode cX0_enter 109 = .ok (.return_, 1) := by decide +kernel
theorem dX0_carryOut_0 : decode cX0_carryOut 0 = .ok (.aload_n 0, 1) := by decide +kernel
theorem dX0_carryOut_1 : decode cX0_carryOut 1 = .ok (.getfield 16, 3) := by decide +kernel
theorem dX0_carryOut_4 : decode cX0_carryOut 4 = .ok (.iload_n 1, 1) := by decide +kernel
theorem dX0_carryOut_5 : decode cX0_carryOut 5 = .ok (.iaload, 1) := by decide +kernel
theorem dX0_carryOut_6 : decode cX0_carryOut 6 = .ok (.istore_n 2, 1) := by decide +kernel
theorem dX0_carryOut_7 : decode cX0_carryOut 7 = .ok (.aload_n 0, 1) := by decide +kernel
theorem dX0_carryOut_8 : decode cX0_carryOut 8 = .ok (.getfield 19, 3) := by decide +kernel
theorem dX0_carryOut_11 : decode cX0_carryOut 11 = .ok (.iload_n 1, 1) := by decide +kernel
theorem dX0_carryOut_12 : decode cX0_carryOut 12 = .ok (.iaload, 1) := by decide +kernel
theorem dX0_carryOut_13 : decode cX0_carryOut 13 = .ok (.istore_n 3, 1) := by decide +kernel
theorem dX0_carryOut_14 : decode cX0_carryOut 14 = .ok (.aload_n 0, 1) := by decide +kernel
theorem dX0_carryOut_15 : decode cX0_carryOut 15 = .ok (.getfield 13, 3) := by decide +kernel
theorem dX0_carryOut_18 : decode cX0_carryOut 18 = .ok (.iload_n 1, 1) := by decide +kernel
theorem dX0_carryOut_19 : decode cX0_carryOut 19 = .ok (.iaload, 1) := by decide +kernel
theorem dX0_carryOut_20 : decode cX0_carryOut 20 = .ok (.tableswitch 129 0 4 #[36, 46, 68, 90, 112], 36) := by decide +kernel
theorem dX0_carryOut_56 : decode cX0_carryOut 56 = .ok (.aload_n 0, 1) := by decide +kernel
theorem dX0_carryOut_57 : decode cX0_carryOut 57 = .ok (.getfield 58, 3) := by decide +kernel
theorem dX0_carryOut_60 : decode cX0_carryOut 60 = .ok (.iload_n 2, 1) := by decide +kernel
theorem dX0_carryOut_61 : decode cX0_carryOut 61 = .ok (.iload_n 3, 1) := by decide +kernel
theorem dX0_carryOut_62 : decode cX0_carryOut 62 = .ok (.iastore, 1) := by decide +kernel
theorem dX0_carryOut_63 : decode cX0_carryOut 63 = .ok (.goto 114, 3) := by decide +kernel
theorem dX0_carryOut_66 : decode cX0_carryOut 66 = .ok (.aload_n 0, 1) := by decide +kernel
theorem dX0_carryOut_67 : decode cX0_carryOut 67 = .ok (.getfield 58, 3) := by decide +kernel
theorem dX0_carryOut_70 : decode cX0_carryOut 70 = .ok (.iload_n 2, 1) := by decide +kernel
theorem dX0_carryOut_71 : decode cX0_carryOut 71 = .ok (.aload_n 0, 1) := by decide +kernel
theorem dX0_carryOut_72 : decode cX0_carryOut 72 = .ok (.getfield 58, 3) := by decide +kernel
theorem dX0_carryOut_75 : decode cX0_carryOut 75 = .ok (.iload_n 2, 1) := by decide +kernel
theorem dX0_carryOut_76 : decode cX0_carryOut 76 = .ok (.iaload, 1) := by decide +kernel
theorem dX0_carryOut_77 : decode cX0_carryOut 77 = .ok (.aload_n 0, 1) := by decide +kernel
theorem dX0_carryOut_78 : decode cX0_carryOut 78 = .ok (.getfield 58, 3) := by decide +kernel
theorem dX0_carryOut_81 : decode cX0_carryOut 81 = .ok (.iload_n 3, 1) := by decide +kernel
theorem dX0_carryOut_82 : decode cX0_carryOut 82 = .ok (.iaload, 1) := by decide +kernel
theorem dX0_carryOut_83 : decode cX0_carryOut 83 = .ok (.iadd, 1) := by decide +kernel
theorem dX0_carryOut_84 : decode cX0_carryOut 84 = .ok (.iastore, 1) := by decide +kernel
theorem dX0_carryOut_85 : decode cX0_carryOut 85 = .ok (.goto 92, 3) := by decide +kernel
theorem dX0_carryOut_88 : decode cX0_carryOut 88 = .ok (.aload_n 0, 1) := by decide +kernel
theorem dX0_carryOut_89 : decode cX0_carryOut 89 = .ok (.getfield 58, 3) := by decide +kernel
theorem dX0_carryOut_92 : decode cX0_carryOut 92 = .ok (.iload_n 2, 1) := by decide +kernel
theorem dX0_carryOut_93 : decode cX0_carryOut 93 = .ok (.aload_n 0, 1) := by decide +kernel
theorem dX0_carryOut_94 : decode cX0_carryOut 94 = .ok (.getfield 58, 3) := by decide +kernel
theorem dX0_carryOut_97 : decode cX0_carryOut 97 = .ok (.iload_n 2, 1) := by decide +kernel
theorem dX0_carryOut_98 : decode cX0_carryOut 98 = .ok (.iaload, 1) := by decide +kernel
theorem dX0_carryOut_99 : decode cX0_carryOut 99 = .ok (.aload_n 0, 1) := by decide +kernel
theorem dX0_carryOut_100 : decode cX0_carryOut 100 = .ok (.getfield 58, 3) := by decide +kernel
theorem dX0_carryOut_103 : decode cX0_carryOut 103 = .ok (.iload_n 3, 1) := by decide +kernel
theorem dX0_carryOut_104 : decode cX0_carryOut 104 = .ok (.iaload, 1) := by decide +kernel
theorem dX0_carryOut_105 : decode cX0_carryOut 105 = .ok (.isub, 1) := by decide +kernel
theorem dX0_carryOut_106 : decode cX0_carryOut 106 = .ok (.iastore, 1) := by decide +kernel
theorem dX0_carryOut_107 : decode cX0_carryOut 107 = .ok (.goto 70, 3) := by decide +kernel
theorem dX0_carryOut_110 : decode cX0_carryOut 110 = .ok (.aload_n 0, 1) := by decide +kernel
theorem dX0_carryOut_111 : decode cX0_carryOut 111 = .ok (.getfield 58, 3) := by decide +kernel
theorem dX0_carryOut_114 : decode cX0_carryOut 114 = .ok (.iload_n 2, 1) := by decide +kernel
theorem dX0_carryOut_115 : decode cX0_carryOut 115 = .ok (.aload_n 0, 1) := by decide +kernel
theorem dX0_carryOut_116 : decode cX0_carryOut 116 = .ok (.getfield 58, 3) := by decide +kernel
theorem dX0_carryOut_119 : decode cX0_carryOut 119 = .ok (.iload_n 2, 1) := by decide +kernel
theorem dX0_carryOut_120 : decode cX0_carryOut 120 = .ok (.iaload, 1) := by decide +kernel
theorem dX0_carryOut_121 : decode cX0_carryOut 121 = .ok (.aload_n 0, 1) := by decide +kernel
theorem dX0_carryOut_122 : decode cX0_carryOut 122 = .ok (.getfield 58, 3) := by decide +kernel
theorem dX0_carryOut_125 : decode cX0_carryOut 125 = .ok (.iload_n 3, 1) := by decide +kernel
theorem dX0_carryOut_126 : decode cX0_carryOut 126 = .ok (.iaload, 1) := by decide +kernel
theorem dX0_carryOut_127 : decode cX0_carryOut 127 = .ok (.imul, 1) := by decide +kernel
theorem dX0_carryOut_128 : decode cX0_carryOut 128 = .ok (.iastore, 1) := by decide +kernel
theorem dX0_carryOut_129 : decode cX0_carryOut 129 = .ok (.goto 48, 3) := by decide +kernel
theorem dX0_carryOut_132 : decode cX0_carryOut 132 = .ok (.aload_n 0, 1) := by decide +kernel
theorem dX0_carryOut_133 : decode cX0_carryOut 133 = .ok (.getfield 58, 3) := by decide +kernel
theorem dX0_carryOut_136 : decode cX0_carryOut 136 = .ok (.iload_n 2, 1) := by decide +kernel
theorem dX0_carryOut_137 : decode cX0_carryOut 137 = .ok (.aload_n 0, 1) := by decide +kernel
theorem dX0_carryOut_138 : decode cX0_carryOut 138 = .ok (.getfield 58, 3) := by decide +kernel
theorem dX0_carryOut_141 : decode cX0_carryOut 141 = .ok (.iload_n 2, 1) := by decide +kernel
theorem dX0_carryOut_142 : decode cX0_carryOut 142 = .ok (.iaload, 1) := by decide +kernel
theorem dX0_carryOut_143 : decode cX0_carryOut 143 = .ok (.iload_n 3, 1) := by decide +kernel
theorem dX0_carryOut_144 : decode cX0_carryOut 144 = .ok (.iadd, 1) := by decide +kernel
theorem dX0_carryOut_145 : decode cX0_carryOut 145 = .ok (.iastore, 1) := by decide +kernel
theorem dX0_carryOut_146 : decode cX0_carryOut 146 = .ok (.goto 31, 3) := by decide +kernel
theorem dX0_carryOut_149 : decode cX0_carryOut 149 = .ok (.aload_n 0, 1) := by decide +kernel
theorem dX0_carryOut_150 : decode cX0_carryOut 150 = .ok (.getfield 64, 3) := by decide +kernel
theorem dX0_carryOut_153 : decode cX0_carryOut 153 = .ok (.aload_n 0, 1) := by decide +kernel
theorem dX0_carryOut_154 : decode cX0_carryOut 154 = .ok (.getfield 118, 3) := by decide +kernel
theorem dX0_carryOut_157 : decode cX0_carryOut 157 = .ok (.bipush 15, 2) := by decide +kernel
theorem dX0_carryOut_159 : decode cX0_carryOut 159 = .ok (.iand, 1) := by decide +kernel
theorem dX0_carryOut_160 : decode cX0_carryOut 160 = .ok (.aload_n 0, 1) := by decide +kernel
theorem dX0_carryOut_161 : decode cX0_carryOut 161 = .ok (.getfield 58, 3) := by decide +kernel
theorem dX0_carryOut_164 : decode cX0_carryOut 164 = .ok (.iload_n 2, 1) := by decide +kernel
theorem dX0_carryOut_165 : decode cX0_carryOut 165 = .ok (.iaload, 1) := by decide +kernel
theorem dX0_carryOut_166 : decode cX0_carryOut 166 = .ok (.iastore, 1) := by decide +kernel
theorem dX0_carryOut_167 : decode cX0_carryOut 167 = .ok (.aload_n 0, 1) := by decide +kernel
theorem dX0_carryOut_168 : decode cX0_carryOut 168 = .ok (.dup, 1) := by decide +kernel
theorem dX0_carryOut_169 : decode cX0_carryOut 169 = .ok (.getfield 118, 3) := by decide +kernel
theorem dX0_carryOut_172 : decode cX0_carryOut 172 = .ok (.iconst 1, 1) := by decide +kernel
theorem dX0_carryOut_173 : decode cX0_carryOut 173 = .ok (.iadd, 1) := by decide +kernel
theorem dX0_carryOut_174 : decode cX0_carryOut 174 = .ok (.putfield 118, 3) := by decide +kernel
theorem dX0_carryOut_177 : decode cX0_carryOut 177 = .ok (.return_, 1) := by decide +kernel
theorem dX0_get_0 : decode cX0_get 0 = .ok (.iload_n 1, 1) := by decide +kernel
theorem dX0_get_1 : decode cX0_get 1 = .ok (.invokestatic 75, 3) := by decide +kernel
theorem dX0_get_4 : decode cX0_get 4 = .ok (.ifCond .eq 7, 3) := by decide +kernel
theorem dX0_get_7 : decode cX0_get 7 = .ok (.iconst 0, 1) := by decide +kernel
theorem dX0_get_8 : decode cX0_get 8 = .ok (.goto 9, 3) := by decide +kernel
theorem dX0_get_11 : decode cX0_get 11 = .ok (.aload_n 0, 1) := by decide +kernel
theorem dX0_get_12 : decode cX0_get 12 = .ok (.getfield 58, 3) := by decide +kernel
theorem dX0_get_15 : decode cX0_get 15 = .ok (.iload_n 1, 1) := by decide +kernel
theorem dX0_get_16 : decode cX0_get 16 = .ok (.iaload, 1) := by decide +kernel
theorem dX0_get_17 : decode cX0_get 17 = .ok (.ireturn, 1) := by decide +kernel
theorem dX0_outputs_0 : decode cX0_outputs 0 = .ok (.aload_n 0, 1) := by decide +kernel
theorem dX0_outputs_1 : decode cX0_outputs 1 = .ok (.getfield 118, 3) := by decide +kernel
theorem dX0_outputs_4 : decode cX0_outputs 4 = .ok (.ireturn, 1) := by decide +kernel
theorem dX0_output_0 : decode cX0_output 0 = .ok (.iload_n 1, 1) := by decide +kernel
theorem dX0_output_1 : decode cX0_output 1 = .ok (.ifCond .lt 17, 3) := by decide +kernel
theorem dX0_output_4 : decode cX0_output 4 = .ok (.iload_n 1, 1) := by decide +kernel
theorem dX0_output_5 : decode cX0_output 5 = .ok (.bipush 15, 2) := by decide +kernel
theorem dX0_output_7 : decode cX0_output 7 = .ok (.if_icmp .gt 11, 3) := by decide +kernel
theorem dX0_output_10 : decode cX0_output 10 = .ok (.iload_n 1, 1) := by decide +kernel
theorem dX0_output_11 : decode cX0_output 11 = .ok (.aload_n 0, 1) := by decide +kernel
theorem dX0_output_12 : decode cX0_output 12 = .ok (.getfield 118, 3) := by decide +kernel
theorem dX0_output_15 : decode cX0_output 15 = .ok (.if_icmp .lt 5, 3) := by decide +kernel
theorem dX0_output_18 : decode cX0_output 18 = .ok (.iconst 0, 1) := by decide +kernel
theorem dX0_output_19 : decode cX0_output 19 = .ok (.ireturn, 1) := by decide +kernel
theorem dX0_output_20 : decode cX0_output 20 = .ok (.aload_n 0, 1) := by decide +kernel
theorem dX0_output_21 : decode cX0_output 21 = .ok (.getfield 64, 3) := by decide +kernel
theorem dX0_output_24 : decode cX0_output 24 = .ok (.aload_n 0, 1) := by decide +kernel
theorem dX0_output_25 : decode cX0_output 25 = .ok (.getfield 118, 3) := by decide +kernel
theorem dX0_output_28 : decode cX0_output 28 = .ok (.iconst 1, 1) := by decide +kernel
theorem dX0_output_29 : decode cX0_output 29 = .ok (.isub, 1) := by decide +kernel
theorem dX0_output_30 : decode cX0_output 30 = .ok (.iload_n 1, 1) := by decide +kernel
theorem dX0_output_31 : decode cX0_output 31 = .ok (.isub, 1) := by decide +kernel
theorem dX0_output_32 : decode cX0_output 32 = .ok (.bipush 15, 2) := by decide +kernel
theorem dX0_output_34 : decode cX0_output 34 = .ok (.iand, 1) := by decide +kernel
theorem dX0_output_35 : decode cX0_output 35 = .ok (.iaload, 1) := by decide +kernel
theorem dX0_output_36 : decode cX0_output 36 = .ok (.ireturn, 1) := by decide +kernel
theorem dX0_visits_0 : decode cX0_visits 0 = .ok (.iload_n 1, 1) := by decide +kernel
theorem dX0_visits_1 : decode cX0_visits 1 = .ok (.invokestatic 71, 3) := by decide +kernel
theorem dX0_visits_4 : decode cX0_visits 4 = .ok (.ifCond .eq 7, 3) := by decide +kernel
theorem dX0_visits_7 : decode cX0_visits 7 = .ok (.iconst (-1), 1) := by decide +kernel
theorem dX0_visits_8 : decode cX0_visits 8 = .ok (.goto 9, 3) := by decide +kernel
theorem dX0_visits_11 : decode cX0_visits 11 = .ok (.aload_n 0, 1) := by decide +kernel
theorem dX0_visits_12 : decode cX0_visits 12 = .ok (.getfield 61, 3) := by decide +kernel
theorem dX0_visits_15 : decode cX0_visits 15 = .ok (.iload_n 1, 1) := by decide +kernel
theorem dX0_visits_16 : decode cX0_visits 16 = .ok (.iaload, 1) := by decide +kernel
theorem dX0_visits_17 : decode cX0_visits 17 = .ok (.ireturn, 1) := by decide +kernel
theorem dX0_last_0 : decode cX0_last 0 = .ok (.aload_n 0, 1) := by decide +kernel
theorem dX0_last_1 : decode cX0_last 1 = .ok (.getfield 67, 3) := by decide +kernel
theorem dX0_last_4 : decode cX0_last 4 = .ok (.ireturn, 1) := by decide +kernel
theorem dX0_reachable_0 : decode cX0_reachable 0 = .ok (.aload_n 0, 1) := by decide +kernel
theorem dX0_reachable_1 : decode cX0_reachable 1 = .ok (.invokevirtual 134, 3) := by decide +kernel
theorem dX0_reachable_4 : decode cX0_reachable 4 = .ok (.aload_n 0, 1) := by decide +kernel
theorem dX0_reachable_5 : decode cX0_reachable 5 = .ok (.getfield 86, 3) := by decide +kernel
theorem dX0_reachable_8 : decode cX0_reachable 8 = .ok (.ireturn, 1) := by decide +kernel
end
section
set_option maxRecDepth 100000
theorem dX1_init_0 : decode cX1_init 0 = .ok (.aload_n 0, 1) := by decide +kernel
theorem dX1_init_1 : decode cX1_init 1 = .ok (.invokespecial 1, 3) := by decide +kernel
theorem dX1_init_4 : decode cX1_init 4 = .ok (.aload_n 0, 1) := by decide +kernel
theorem dX1_init_5 : decode cX1_init 5 = .ok (.bipush 10, 2) := by decide +kernel
theorem dX1_init_7 : decode cX1_init 7 = .ok (.newarray .int, 2) := by decide +kernel
theorem dX1_init_9 : decode cX1_init 9 = .ok (.putfield 7, 3) := by decide +kernel
theorem dX1_init_12 : decode cX1_init 12 = .ok (.aload_n 0, 1) := by decide +kernel
theorem dX1_init_13 : decode cX1_init 13 = .ok (.bipush 30, 2) := by decide +kernel
theorem dX1_init_15 : decode cX1_init 15 = .ok (.newarray .int, 2) := by decide +kernel
theorem dX1_init_17 : decode cX1_init 17 = .ok (.putfield 13, 3) := by decide +kernel
theorem dX1_init_20 : decode cX1_init 20 = .ok (.aload_n 0, 1) := by decide +kernel
theorem dX1_init_21 : decode cX1_init 21 = .ok (.bipush 30, 2) := by decide +kernel
theorem dX1_init_23 : decode cX1_init 23 = .ok (.newarray .int, 2) := by decide +kernel
theorem dX1_init_25 : decode cX1_init 25 = .ok (.putfield 16, 3) := by decide +kernel
theorem dX1_init_28 : decode cX1_init 28 = .ok (.aload_n 0, 1) := by decide +kernel
theorem dX1_init_29 : decode cX1_init 29 = .ok (.bipush 30, 2) := by decide +kernel
theorem dX1_init_31 : decode cX1_init 31 = .ok (.newarray .int, 2) := by decide +kernel
theorem dX1_init_33 : decode cX1_init 33 = .ok (.putfield 19, 3) := by decide +kernel
theorem dX1_init_36 : decode cX1_init 36 = .ok (.aload_n 0, 1) := by decide +kernel
theorem dX1_init_37 : decode cX1_init 37 = .ok (.bipush 10, 2) := by decide +kernel
theorem dX1_init_39 : decode cX1_init 39 = .ok (.newarray .int, 2) := by decide +kernel
theorem dX1_init_41 : decode cX1_init 41 = .ok (.putfield 22, 3) := by decide +kernel
theorem dX1_init_44 : decode cX1_init 44 = .ok (.aload_n 0, 1) := by decide +kernel
theorem dX1_init_45 : decode cX1_init 45 = .ok (.bipush 10, 2) := by decide +kernel
theorem dX1_init_47 : decode cX1_init 47 = .ok (.newarray .int, 2) := by decide +kernel
theorem dX1_init_49 : decode cX1_init 49 = .ok (.putfield 25, 3) := by decide +kernel
theorem dX1_init_52 : decode cX1_init 52 = .ok (.aload_n 0, 1) := by decide +kernel
theorem dX1_init_53 : decode cX1_init 53 = .ok (.bipush 10, 2) := by decide +kernel
theorem dX1_init_55 : decode cX1_init 55 = .ok (.newarray .int, 2) := by decide +kernel
theorem dX1_init_57 : decode cX1_init 57 = .ok (.putfield 28, 3) := by decide +kernel
theorem dX1_init_60 : decode cX1_init 60 = .ok (.aload_n 0, 1) := by decide +kernel
theorem dX1_init_61 : decode cX1_init 61 = .ok (.bipush 10, 2) := by decide +kernel
theorem dX1_init_63 : decode cX1_init 63 = .ok (.newarray .int, 2) := by decide +kernel
theorem dX1_init_65 : decode cX1_init 65 = .ok (.putfield 31, 3) := by decide +kernel
theorem dX1_init_68 : decode cX1_init 68 = .ok (.aload_n 0, 1) := by decide +kernel
theorem dX1_init_69 : decode cX1_init 69 = .ok (.iconst 4, 1) := by decide +kernel
theorem dX1_init_70 : decode cX1_init 70 = .ok (.newarray .int, 2) := by decide +kernel
theorem dX1_init_72 : decode cX1_init 72 = .ok (.putfield 34, 3) := by decide +kernel
theorem dX1_init_75 : decode cX1_init 75 = .ok (.aload_n 0, 1) := by decide +kernel
theorem dX1_init_76 : decode cX1_init 76 = .ok (.bipush 16, 2) := by decide +kernel
theorem dX1_init_78 : decode cX1_init 78 = .ok (.newarray .int, 2) := by decide +kernel
theorem dX1_init_80 : decode cX1_init 80 = .ok (.putfield 37, 3) := by decide +kernel
theorem dX1_init_83 : decode cX1_init 83 = .ok (.aload_n 0, 1) := by decide +kernel
theorem dX1_init_84 : decode cX1_init 84 = .ok (.bipush 10, 2) := by decide +kernel
theorem dX1_init_86 : decode cX1_init 86 = .ok (.newarray .int, 2) := by decide +kernel
theorem dX1_init_88 : decode cX1_init 88 = .ok (.putfield 40, 3) := by decide +kernel
theorem dX1_init_91 : decode cX1_init 91 = .ok (.aload_n 0, 1) := by decide +kernel
theorem dX1_init_92 : decode cX1_init 92 = .ok (.iconst (-1), 1) := by decide +kernel
theorem dX1_init_93 : decode cX1_init 93 = .ok (.putfield 43, 3) := by decide +kernel
theorem dX1_init_96 : decode cX1_init 96 = .ok (.return_, 1) := by decide +kernel
theorem dX1_assign_0 : decode cX1_assign 0 = .ok (.aload_n 0, 1) := by decide +kernel
theorem dX1_assign_1 : decode cX1_assign 1 = .ok (.iload_n 1, 1) := by decide +kernel
theorem dX1_assign_2 : decode cX1_assign 2 = .ok (.invokevirtual 47, 3) := by decide +kernel
theorem dX1_assign_5 : decode cX1_assign 5 = .ok (.ifCond .eq 5, 3) := by decide +kernel
theorem dX1_assign_8 : decode cX1_assign 8 = .ok (.iconst (-1), 1) := by decide +kernel
theorem dX1_assign_9 : decode cX1_assign 9 = .ok (.ireturn, 1) := by decide +kernel
theorem dX1_assign_10 : decode cX1_assign 10 = .ok (.iload_n 2, 1) := by decide +kernel
theorem dX1_assign_11 : decode cX1_assign 11 = .ok (.ifCond .lt 8, 3) := by decide +kernel
theorem dX1_assign_14 : decode cX1_assign 14 = .ok (.iload_n 2, 1) := by decide +kernel
theorem dX1_assign_15 : decode cX1_assign 15 = .ok (.iconst 5, 1) := by decide +kernel
theorem dX1_assign_16 : decode cX1_assign 16 = .ok (.if_icmp .le 6, 3) := by decide +kernel
theorem dX1_assign_19 : decode cX1_assign 19 = .ok (.bipush (-3), 2) := by decide +kernel
theorem dX1_assign_21 : decode cX1_assign 21 = .ok (.ireturn, 1) := by decide +kernel
theorem dX1_assign_22 : decode cX1_assign 22 = .ok (.aload_n 0, 1) := by decide +kernel
theorem dX1_assign_23 : decode cX1_assign 23 = .ok (.iload_n 3, 1) := by decide +kernel
theorem dX1_assign_24 : decode cX1_assign 24 = .ok (.invokevirtual 51, 3) := by decide +kernel
theorem dX1_assign_27 : decode cX1_assign 27 = .ok (.ifCond .ne 22, 3) := by decide +kernel
theorem dX1_assign_30 : decode cX1_assign 30 = .ok (.iload_n 2, 1) := by decide +kernel
theorem dX1_assign_31 : decode cX1_assign 31 = .ok (.iconst 1, 1) := by decide +kernel
theorem dX1_assign_32 : decode cX1_assign 32 = .ok (.if_icmp .lt 20, 3) := by decide +kernel
theorem dX1_assign_35 : decode cX1_assign 35 = .ok (.iload_n 2, 1) := by decide +kernel
theorem dX1_assign_36 : decode cX1_assign 36 = .ok (.iconst 3, 1) := by decide +kernel
theorem dX1_assign_37 : decode cX1_assign 37 = .ok (.if_icmp .gt 15, 3) := by decide +kernel
theorem dX1_assign_40 : decode cX1_assign 40 = .ok (.aload_n 0, 1) := by decide +kernel
theorem dX1_assign_41 : decode cX1_assign 41 = .ok (.iload 4, 2) := by decide +kernel
theorem dX1_assign_43 : decode cX1_assign 43 = .ok (.invokevirtual 51, 3) := by decide +kernel
theorem dX1_assign_46 : decode cX1_assign 46 = .ok (.ifCond .eq 6, 3) := by decide +kernel
theorem dX1_assign_49 : decode cX1_assign 49 = .ok (.bipush (-2), 2) := by decide +kernel
theorem dX1_assign_51 : decode cX1_assign 51 = .ok (.ireturn, 1) := by decide +kernel
theorem dX1_assign_52 : decode cX1_assign 52 = .ok (.aload_n 0, 1) := by decide +kernel
theorem dX1_assign_53 : decode cX1_assign 53 = .ok (.getfield 7, 3) := by decide +kernel
theorem dX1_assign_56 : decode cX1_assign 56 = .ok (.iload_n 1, 1) := by decide +kernel
theorem dX1_assign_57 : decode cX1_assign 57 = .ok (.iaload, 1) := by decide +kernel
theorem dX1_assign_58 : decode cX1_assign 58 = .ok (.istore 5, 2) := by decide +kernel
theorem dX1_assign_60 : decode cX1_assign 60 = .ok (.iload 5, 2) := by decide +kernel
theorem dX1_assign_62 : decode cX1_assign 62 = .ok (.iconst 3, 1) := by decide +kernel
theorem dX1_assign_63 : decode cX1_assign 63 = .ok (.if_icmp .ne 6, 3) := by decide +kernel
theorem dX1_assign_66 : decode cX1_assign 66 = .ok (.bipush (-4), 2) := by decide +kernel
theorem dX1_assign_68 : decode cX1_assign 68 = .ok (.ireturn, 1) := by decide +kernel
theorem dX1_assign_69 : decode cX1_assign 69 = .ok (.aload_n 0, 1) := by decide +kernel
theorem dX1_assign_70 : decode cX1_assign 70 = .ok (.getfield 13, 3) := by decide +kernel
theorem dX1_assign_73 : decode cX1_assign 73 = .ok (.iload_n 1, 1) := by decide +kernel
theorem dX1_assign_74 : decode cX1_assign 74 = .ok (.iconst 3, 1) := by decide +kernel
theorem dX1_assign_75 : decode cX1_assign 75 = .ok (.imul, 1) := by decide +kernel
theorem dX1_assign_76 : decode cX1_assign 76 = .ok (.iload 5, 2) := by decide +kernel
theorem dX1_assign_78 : decode cX1_assign 78 = .ok (.iadd, 1) := by decide +kernel
theorem dX1_assign_79 : decode cX1_assign 79 = .ok (.iload_n 2, 1) := by decide +kernel
theorem dX1_assign_80 : decode cX1_assign 80 = .ok (.iastore, 1) := by decide +kernel
theorem dX1_assign_81 : decode cX1_assign 81 = .ok (.aload_n 0, 1) := by decide +kernel
theorem dX1_assign_82 : decode cX1_assign 82 = .ok (.getfield 16, 3) := by decide +kernel
theorem dX1_assign_85 : decode cX1_assign 85 = .ok (.iload_n 1, 1) := by decide +kernel
theorem dX1_assign_86 : decode cX1_assign 86 = .ok (.iconst 3, 1) := by decide +kernel
theorem dX1_assign_87 : decode cX1_assign 87 = .ok (.imul, 1) := by decide +kernel
theorem dX1_assign_88 : decode cX1_assign 88 = .ok (.iload 5, 2) := by decide +kernel
theorem dX1_assign_90 : decode cX1_assign 90 = .ok (.iadd, 1) := by decide +kernel
theorem dX1_assign_91 : decode cX1_assign 91 = .ok (.iload_n 3, 1) := by decide +kernel
theorem dX1_assign_92 : decode cX1_assign 92 = .ok (.iastore, 1) := by decide +kernel
theorem dX1_assign_93 : decode cX1_assign 93 = .ok (.aload_n 0, 1) := by decide +kernel
theorem dX1_assign_94 : decode cX1_assign 94 = .ok (.getfield 19, 3) := by decide +kernel
theorem dX1_assign_97 : decode cX1_assign 97 = .ok (.iload_n 1, 1) := by decide +kernel
theorem dX1_assign_98 : decode cX1_assign 98 = .ok (.iconst 3, 1) := by decide +kernel
theorem dX1_assign_99 : decode cX1_assign 99 = .ok (.imul, 1) := by decide +kernel
theorem dX1_assign_100 : decode cX1_assign 100 = .ok (.iload 5, 2) := by decide +kernel
theorem dX1_assign_102 : decode cX1_assign 102 = .ok (.iadd, 1) := by decide +kernel
theorem dX1_assign_103 : decode cX1_assign 103 = .ok (.iload 4, 2) := by decide +kernel
theorem dX1_assign_105 : decode cX1_assign 105 = .ok (.iastore, 1) := by decide +kernel
theorem dX1_assign_106 : decode cX1_assign 106 = .ok (.aload_n 0, 1) := by decide +kernel
theorem dX1_assign_107 : decode cX1_assign 107 = .ok (.getfield 7, 3) := by decide +kernel
theorem dX1_assign_110 : decode cX1_assign 110 = .ok (.iload_n 1, 1) := by decide +kernel
theorem dX1_assign_111 : decode cX1_assign 111 = .ok (.iload 5, 2) := by decide +kernel
theorem dX1_assign_113 : decode cX1_assign 113 = .ok (.iconst 1, 1) := by decide +kernel
theorem dX1_assign_114 : decode cX1_assign 114 = .ok (.iadd, 1) := by decide +kernel
theorem dX1_assign_115 : decode cX1_assign 115 = .ok (.iastore, 1) := by decide +kernel
theorem dX1_assign_116 : decode cX1_assign 116 = .ok (.iload 5, 2) := by decide +kernel
theorem dX1_assign_118 : decode cX1_assign 118 = .ok (.iconst 1, 1) := by decide +kernel
theorem dX1_assign_119 : decode cX1_assign 119 = .ok (.iadd, 1) := by decide +kernel
theorem dX1_assign_120 : decode cX1_assign 120 = .ok (.ireturn, 1) := by decide +kernel
theorem dX1_bad_0 : decode cX1_bad 0 = .ok (.iload_n 1, 1) := by decide +kernel
theorem dX1_bad_1 : decode cX1_bad 1 = .ok (.ifCond .lt 9, 3) := by decide +kernel
theorem dX1_bad_4 : decode cX1_bad 4 = .ok (.iload_n 1, 1) := by decide +kernel
theorem dX1_bad_5 : decode cX1_bad 5 = .ok (.bipush 9, 2) := by decide +kernel
theorem dX1_bad_7 : decode cX1_bad 7 = .ok (.if_icmp .le 7, 3) := by decide +kernel
theorem dX1_bad_10 : decode cX1_bad 10 = .ok (.iconst 1, 1) := by decide +kernel
theorem dX1_bad_11 : decode cX1_bad 11 = .ok (.goto 4, 3) := by decide +kernel
theorem dX1_bad_14 : decode cX1_bad 14 = .ok (.iconst 0, 1) := by decide +kernel
theorem dX1_bad_15 : decode cX1_bad 15 = .ok (.ireturn, 1) := by decide +kernel
theorem dX1_badVariable_0 : decode cX1_badVariable 0 = .ok (.iload_n 1, 1) := by decide +kernel
theorem dX1_badVariable_1 : decode cX1_badVariable 1 = .ok (.ifCond .lt 8, 3) := by decide +kernel
theorem dX1_badVariable_4 : decode cX1_badVariable 4 = .ok (.iload_n 1, 1) := by decide +kernel
theorem dX1_badVariable_5 : decode cX1_badVariable 5 = .ok (.iconst 3, 1) := by decide +kernel
theorem dX1_badVariable_6 : decode cX1_badVariable 6 = .ok (.if_icmp .le 7, 3) := by decide +kernel
theorem dX1_badVariable_9 : decode cX1_badVariable 9 = .ok (.iconst 1, 1) := by decide +kernel
theorem dX1_badVariable_10 : decode cX1_badVariable 10 = .ok (.goto 4, 3) := by decide +kernel
theorem dX1_badVariable_13 : decode cX1_badVariable 13 = .ok (.iconst 0, 1) := by decide +kernel
theorem dX1_badVariable_14 : decode cX1_badVariable 14 = .ok (.ireturn, 1) := by decide +kernel
theorem dX1_empty_0 : decode cX1_empty 0 = .ok (.aload_n 0, 1) := by decide +kernel
theorem dX1_empty_1 : decode cX1_empty 1 = .ok (.iload_n 1, 1) := by decide +kernel
theorem dX1_empty_2 : decode cX1_empty 2 = .ok (.invokevirtual 47, 3) := by decide +kernel
theorem dX1_empty_5 : decode cX1_empty 5 = .ok (.ifCond .eq 5, 3) := by decide +kernel
theorem dX1_empty_8 : decode cX1_empty 8 = .ok (.iconst (-1), 1) := by decide +kernel
theorem dX1_empty_9 : decode cX1_empty 9 = .ok (.ireturn, 1) := by decide +kernel
theorem dX1_empty_10 : decode cX1_empty 10 = .ok (.aload_n 0, 1) := by decide +kernel
theorem dX1_empty_11 : decode cX1_empty 11 = .ok (.getfield 7, 3) := by decide +kernel
theorem dX1_empty_14 : decode cX1_empty 14 = .ok (.iload_n 1, 1) := by decide +kernel
theorem dX1_empty_15 : decode cX1_empty 15 = .ok (.iaload, 1) := by decide +kernel
theorem dX1_empty_16 : decode cX1_empty 16 = .ok (.istore_n 2, 1) := by decide +kernel
theorem dX1_empty_17 : decode cX1_empty 17 = .ok (.aload_n 0, 1) := by decide +kernel
theorem dX1_empty_18 : decode cX1_empty 18 = .ok (.getfield 7, 3) := by decide +kernel
theorem dX1_empty_21 : decode cX1_empty 21 = .ok (.iload_n 1, 1) := by decide +kernel
theorem dX1_empty_22 : decode cX1_empty 22 = .ok (.iconst 0, 1) := by decide +kernel
theorem dX1_empty_23 : decode cX1_empty 23 = .ok (.iastore, 1) := by decide +kernel
theorem dX1_empty_24 : decode cX1_empty 24 = .ok (.iload_n 2, 1) := by decide +kernel
theorem dX1_empty_25 : decode cX1_empty 25 = .ok (.ireturn, 1) := by decide +kernel
theorem dX1_stop_0 : decode cX1_stop 0 = .ok (.aload_n 0, 1) := by decide +kernel
theorem dX1_stop_1 : decode cX1_stop 1 = .ok (.iload_n 1, 1) := by decide +kernel
theorem dX1_stop_2 : decode cX1_stop 2 = .ok (.invokevirtual 47, 3) := by decide +kernel
theorem dX1_stop_5 : decode cX1_stop 5 = .ok (.ifCond .eq 5, 3) := by decide +kernel
theorem dX1_stop_8 : decode cX1_stop 8 = .ok (.iconst (-1), 1) := by decide +kernel
theorem dX1_stop_9 : decode cX1_stop 9 = .ok (.ireturn, 1) := by decide +kernel
theorem dX1_stop_10 : decode cX1_stop 10 = .ok (.aload_n 0, 1) := by decide +kernel
theorem dX1_stop_11 : decode cX1_stop 11 = .ok (.getfield 22, 3) := by decide +kernel
theorem dX1_stop_14 : decode cX1_stop 14 = .ok (.iload_n 1, 1) := by decide +kernel
theorem dX1_stop_15 : decode cX1_stop 15 = .ok (.iconst 0, 1) := by decide +kernel
theorem dX1_stop_16 : decode cX1_stop 16 = .ok (.iastore, 1) := by decide +kernel
theorem dX1_stop_17 : decode cX1_stop 17 = .ok (.iconst 0, 1) := by decide +kernel
theorem dX1_stop_18 : decode cX1_stop 18 = .ok (.ireturn, 1) := by decide +kernel
theorem dX1_go_0 : decode cX1_go 0 = .ok (.aload_n 0, 1) := by decide +kernel
theorem dX1_go_1 : decode cX1_go 1 = .ok (.iload_n 1, 1) := by decide +kernel
theorem dX1_go_2 : decode cX1_go 2 = .ok (.invokevirtual 47, 3) := by decide +kernel
theorem dX1_go_5 : decode cX1_go 5 = .ok (.ifCond .ne 11, 3) := by decide +kernel
theorem dX1_go_8 : decode cX1_go 8 = .ok (.aload_n 0, 1) := by decide +kernel
theorem dX1_go_9 : decode cX1_go 9 = .ok (.iload_n 2, 1) := by decide +kernel
theorem dX1_go_10 : decode cX1_go 10 = .ok (.invokevirtual 47, 3) := by decide +kernel
theorem dX1_go_13 : decode cX1_go 13 = .ok (.ifCond .eq 5, 3) := by decide +kernel
theorem dX1_go_16 : decode cX1_go 16 = .ok (.iconst (-1), 1) := by decide +kernel
theorem dX1_go_17 : decode cX1_go 17 = .ok (.ireturn, 1) := by decide +kernel
theorem dX1_go_18 : decode cX1_go 18 = .ok (.aload_n 0, 1) := by decide +kernel
theorem dX1_go_19 : decode cX1_go 19 = .ok (.getfield 22, 3) := by decide +kernel
theorem dX1_go_22 : decode cX1_go 22 = .ok (.iload_n 1, 1) := by decide +kernel
theorem dX1_go_23 : decode cX1_go 23 = .ok (.iconst 1, 1) := by decide +kernel
theorem dX1_go_24 : decode cX1_go 24 = .ok (.iastore, 1) := by decide +kernel
theorem dX1_go_25 : decode cX1_go 25 = .ok (.aload_n 0, 1) := by decide +kernel
theorem dX1_go_26 : decode cX1_go 26 = .ok (.getfield 28, 3) := by decide +kernel
theorem dX1_go_29 : decode cX1_go 29 = .ok (.iload_n 1, 1) := by decide +kernel
theorem dX1_go_30 : decode cX1_go 30 = .ok (.iload_n 2, 1) := by decide +kernel
theorem dX1_go_31 : decode cX1_go 31 = .ok (.iastore, 1) := by decide +kernel
theorem dX1_go_32 : decode cX1_go 32 = .ok (.iconst 0, 1) := by decide +kernel
theorem dX1_go_33 : decode cX1_go 33 = .ok (.ireturn, 1) := by decide +kernel
theorem dX1_branch_0 : decode cX1_branch 0 = .ok (.aload_n 0, 1) := by decide +kernel
theorem dX1_branch_1 : decode cX1_branch 1 = .ok (.iload_n 1, 1) := by decide +kernel
theorem dX1_branch_2 : decode cX1_branch 2 = .ok (.invokevirtual 47, 3) := by decide +kernel
theorem dX1_branch_5 : decode cX1_branch 5 = .ok (.ifCond .ne 20, 3) := by decide +kernel
theorem dX1_branch_8 : decode cX1_branch 8 = .ok (.aload_n 0, 1) := by decide +kernel
theorem dX1_branch_9 : decode cX1_branch 9 = .ok (.iload_n 3, 1) := by decide +kernel
theorem dX1_branch_10 : decode cX1_branch 10 = .ok (.invokevirtual 47, 3) := by decide +kernel
theorem dX1_branch_13 : decode cX1_branch 13 = .ok (.ifCond .ne 12, 3) := by decide +kernel
theorem dX1_branch_16 : decode cX1_branch 16 = .ok (.aload_n 0, 1) := by decide +kernel
theorem dX1_branch_17 : decode cX1_branch 17 = .ok (.iload 4, 2) := by decide +kernel
theorem dX1_branch_19 : decode cX1_branch 19 = .ok (.invokevirtual 47, 3) := by decide +kernel
theorem dX1_branch_22 : decode cX1_branch 22 = .ok (.ifCond .eq 5, 3) := by decide +kernel
theorem dX1_branch_25 : decode cX1_branch 25 = .ok (.iconst (-1), 1) := by decide +kernel
theorem dX1_branch_26 : decode cX1_branch 26 = .ok (.ireturn, 1) := by decide +kernel
theorem dX1_branch_27 : decode cX1_branch 27 = .ok (.aload_n 0, 1) := by decide +kernel
theorem dX1_branch_28 : decode cX1_branch 28 = .ok (.iload_n 2, 1) := by decide +kernel
theorem dX1_branch_29 : decode cX1_branch 29 = .ok (.invokevirtual 51, 3) := by decide +kernel
theorem dX1_branch_32 : decode cX1_branch 32 = .ok (.ifCond .eq 6, 3) := by decide +kernel
theorem dX1_branch_35 : decode cX1_branch 35 = .ok (.bipush (-2), 2) := by decide +kernel
theorem dX1_branch_37 : decode cX1_branch 37 = .ok (.ireturn, 1) := by decide +kernel
theorem dX1_branch_38 : decode cX1_branch 38 = .ok (.aload_n 0, 1) := by decide +kernel
theorem dX1_branch_39 : decode cX1_branch 39 = .ok (.getfield 22, 3) := by decide +kernel
theorem dX1_branch_42 : decode cX1_branch 42 = .ok (.iload_n 1, 1) := by decide +kernel
theorem dX1_branch_43 : decode cX1_branch 43 = .ok (.iconst 2, 1) := by decide +kernel
theorem dX1_branch_44 : decode cX1_branch 44 = .ok (.iastore, 1) := by decide +kernel
theorem dX1_branch_45 : decode cX1_branch 45 = .ok (.aload_n 0, 1) := by decide +kernel
theorem dX1_branch_46 : decode cX1_branch 46 = .ok (.getfield 25, 3) := by decide +kernel
theorem dX1_branch_49 : decode cX1_branch 49 = .ok (.iload_n 1, 1) := by decide +kernel
theorem dX1_branch_50 : decode cX1_branch 50 = .ok (.iload_n 2, 1) := by decide +kernel
theorem dX1_branch_51 : decode cX1_branch 51 = .ok (.iastore, 1) := by decide +kernel
theorem dX1_branch_52 : decode cX1_branch 52 = .ok (.aload_n 0, 1) := by decide +kernel
theorem dX1_branch_53 : decode cX1_branch 53 = .ok (.getfield 28, 3) := by decide +kernel
theorem dX1_branch_56 : decode cX1_branch 56 = .ok (.iload_n 1, 1) := by decide +kernel
theorem dX1_branch_57 : decode cX1_branch 57 = .ok (.iload_n 3, 1) := by decide +kernel
theorem dX1_branch_58 : decode cX1_branch 58 = .ok (.iastore, 1) := by decide +kernel
theorem dX1_branch_59 : decode cX1_branch 59 = .ok (.aload_n 0, 1) := by decide +kernel
theorem dX1_branch_60 : decode cX1_branch 60 = .ok (.getfield 31, 3) := by decide +kernel
theorem dX1_branch_63 : decode cX1_branch 63 = .ok (.iload_n 1, 1) := by decide +kernel
theorem dX1_branch_64 : decode cX1_branch 64 = .ok (.iload 4, 2) := by decide +kernel
theorem dX1_branch_66 : decode cX1_branch 66 = .ok (.iastore, 1) := by decide +kernel
theorem dX1_branch_67 : decode cX1_branch 67 = .ok (.iconst 0, 1) := by decide +kernel
theorem dX1_branch_68 : decode cX1_branch 68 = .ok (.ireturn, 1) := by decide +kernel
theorem dX1_set_0 : decode cX1_set 0 = .ok (.aload_n 0, 1) := by decide +kernel
theorem dX1_set_1 : decode cX1_set 1 = .ok (.iload_n 1, 1) := by decide +kernel
theorem dX1_set_2 : decode cX1_set 2 = .ok (.invokevirtual 51, 3) := by decide +kernel
theorem dX1_set_5 : decode cX1_set 5 = .ok (.ifCond .eq 6, 3) := by decide +kernel
theorem dX1_set_8 : decode cX1_set 8 = .ok (.bipush (-2), 2) := by decide +kernel
theorem dX1_set_10 : decode cX1_set 10 = .ok (.ireturn, 1) := by decide +kernel
theorem dX1_set_11 : decode cX1_set 11 = .ok (.aload_n 0, 1) := by decide +kernel
theorem dX1_set_12 : decode cX1_set 12 = .ok (.getfield 34, 3) := by decide +kernel
theorem dX1_set_15 : decode cX1_set 15 = .ok (.iload_n 1, 1) := by decide +kernel
theorem dX1_set_16 : decode cX1_set 16 = .ok (.iload_n 2, 1) := by decide +kernel
theorem dX1_set_17 : decode cX1_set 17 = .ok (.iastore, 1) := by decide +kernel
theorem dX1_set_18 : decode cX1_set 18 = .ok (.iconst 0, 1) := by decide +kernel
theorem dX1_set_19 : decode cX1_set 19 = .ok (.ireturn, 1) := by decide +kernel
theorem dX1_run_0 : decode cX1_run 0 = .ok (.aload_n 0, 1) := by decide +kernel
theorem dX1_run_1 : decode cX1_run 1 = .ok (.iconst 0, 1) := by decide +kernel
theorem dX1_run_2 : decode cX1_run 2 = .ok (.putfield 54, 3) := by decide +kernel
theorem dX1_run_5 : decode cX1_run 5 = .ok (.iconst 0, 1) := by decide +kernel
theorem dX1_run_6 : decode cX1_run 6 = .ok (.istore_n 1, 1) := by decide +kernel
theorem dX1_run_7 : decode cX1_run 7 = .ok (.iload_n 1, 1) := by decide +kernel
theorem dX1_run_8 : decode cX1_run 8 = .ok (.bipush 10, 2) := by decide +kernel
theorem dX1_run_10 : decode cX1_run 10 = .ok (.if_icmp .ge 16, 3) := by decide +kernel
theorem dX1_run_13 : decode cX1_run 13 = .ok (.aload_n 0, 1) := by decide +kernel
theorem dX1_run_14 : decode cX1_run 14 = .ok (.getfield 40, 3) := by decide +kernel
theorem dX1_run_17 : decode cX1_run 17 = .ok (.iload_n 1, 1) := by decide +kernel
theorem dX1_run_18 : decode cX1_run 18 = .ok (.iconst 0, 1) := by decide +kernel
theorem dX1_run_19 : decode cX1_run 19 = .ok (.iastore, 1) := by decide +kernel
theorem dX1_run_20 : decode cX1_run 20 = .ok (.iinc 1 1, 3) := by decide +kernel
theorem dX1_run_23 : decode cX1_run 23 = .ok (.goto (-16), 3) := by decide +kernel
theorem dX1_run_26 : decode cX1_run 26 = .ok (.iconst 0, 1) := by decide +kernel
theorem dX1_run_27 : decode cX1_run 27 = .ok (.istore_n 1, 1) := by decide +kernel
theorem dX1_run_28 : decode cX1_run 28 = .ok (.iconst 0, 1) := by decide +kernel
theorem dX1_run_29 : decode cX1_run 29 = .ok (.istore_n 2, 1) := by decide +kernel
theorem dX1_run_30 : decode cX1_run 30 = .ok (.iload_n 2, 1) := by decide +kernel
theorem dX1_run_31 : decode cX1_run 31 = .ok (.sipush 300, 3) := by decide +kernel
theorem dX1_run_34 : decode cX1_run 34 = .ok (.if_icmp .ge 65, 3) := by decide +kernel
theorem dX1_run_37 : decode cX1_run 37 = .ok (.aload_n 0, 1) := by decide +kernel
theorem dX1_run_38 : decode cX1_run 38 = .ok (.iload_n 1, 1) := by decide +kernel
theorem dX1_run_39 : decode cX1_run 39 = .ok (.invokevirtual 64, 3) := by decide +kernel
theorem dX1_run_42 : decode cX1_run 42 = .ok (.aload_n 0, 1) := by decide +kernel
theorem dX1_run_43 : decode cX1_run 43 = .ok (.getfield 22, 3) := by decide +kernel
theorem dX1_run_46 : decode cX1_run 46 = .ok (.iload_n 1, 1) := by decide +kernel
theorem dX1_run_47 : decode cX1_run 47 = .ok (.iaload, 1) := by decide +kernel
theorem dX1_run_48 : decode cX1_run 48 = .ok (.ifCond .ne 5, 3) := by decide +kernel
theorem dX1_run_51 : decode cX1_run 51 = .ok (.iconst 1, 1) := by decide +kernel
theorem dX1_run_52 : decode cX1_run 52 = .ok (.ireturn, 1) := by decide +kernel
theorem dX1_run_53 : decode cX1_run 53 = .ok (.aload_n 0, 1) := by decide +kernel
theorem dX1_run_54 : decode cX1_run 54 = .ok (.getfield 22, 3) := by decide +kernel
theorem dX1_run_57 : decode cX1_run 57 = .ok (.iload_n 1, 1) := by decide +kernel
theorem dX1_run_58 : decode cX1_run 58 = .ok (.iaload, 1) := by decide +kernel
theorem dX1_run_59 : decode cX1_run 59 = .ok (.iconst 1, 1) := by decide +kernel
theorem dX1_run_60 : decode cX1_run 60 = .ok (.if_icmp .eq 17, 3) := by decide +kernel
theorem dX1_run_63 : decode cX1_run 63 = .ok (.aload_n 0, 1) := by decide +kernel
theorem dX1_run_64 : decode cX1_run 64 = .ok (.getfield 34, 3) := by decide +kernel
theorem dX1_run_67 : decode cX1_run 67 = .ok (.aload_n 0, 1) := by decide +kernel
theorem dX1_run_68 : decode cX1_run 68 = .ok (.getfield 25, 3) := by decide +kernel
theorem dX1_run_71 : decode cX1_run 71 = .ok (.iload_n 1, 1) := by decide +kernel
theorem dX1_run_72 : decode cX1_run 72 = .ok (.iaload, 1) := by decide +kernel
theorem dX1_run_73 : decode cX1_run 73 = .ok (.iaload, 1) := by decide +kernel
theorem dX1_run_74 : decode cX1_run 74 = .ok (.ifCond .le 12, 3) := by decide +kernel
theorem dX1_run_77 : decode cX1_run 77 = .ok (.aload_n 0, 1) := by decide +kernel
end
section
set_option maxRecDepth 100000
theorem dX1_run_78 : decode cX1_run 78 = .ok (.getfield 28, 3) := by decide +kernel
theorem dX1_run_81 : decode cX1_run 81 = .ok (.iload_n 1, 1) := by decide +kernel
theorem dX1_run_82 : decode cX1_run 82 = .ok (.iaload, 1) := by decide +kernel
theorem dX1_run_83 : decode cX1_run 83 = .ok (.goto 9, 3) := by decide +kernel
theorem dX1_run_86 : decode cX1_run 86 = .ok (.aload_n 0, 1) := by decide +kernel
theorem dX1_run_87 : decode cX1_run 87 = .ok (.getfield 31, 3) := by decide +kernel
theorem dX1_run_90 : decode cX1_run 90 = .ok (.iload_n 1, 1) := by decide +kernel
theorem dX1_run_91 : decode cX1_run 91 = .ok (.iaload, 1) := by decide +kernel
theorem dX1_run_92 : decode cX1_run 92 = .ok (.istore_n 1, 1) := by decide +kernel
theorem dX1_run_93 : decode cX1_run 93 = .ok (.iinc 2 1, 3) := by decide +kernel
theorem dX1_run_96 : decode cX1_run 96 = .ok (.goto (-66), 3) := by decide +kernel
theorem dX1_run_99 : decode cX1_run 99 = .ok (.iconst 2, 1) := by decide +kernel
theorem dX1_run_100 : decode cX1_run 100 = .ok (.ireturn, 1) := by decide +kernel
theorem dX1_enter_0 : decode cX1_enter 0 = .ok (.aload_n 0, 1) := by decide +kernel
theorem dX1_enter_1 : decode cX1_enter 1 = .ok (.iload_n 1, 1) := by decide +kernel
theorem dX1_enter_2 : decode cX1_enter 2 = .ok (.putfield 43, 3) := by decide +kernel
theorem dX1_enter_5 : decode cX1_enter 5 = .ok (.aload_n 0, 1) := by decide +kernel
theorem dX1_enter_6 : decode cX1_enter 6 = .ok (.getfield 40, 3) := by decide +kernel
theorem dX1_enter_9 : decode cX1_enter 9 = .ok (.iload_n 1, 1) := by decide +kernel
theorem dX1_enter_10 : decode cX1_enter 10 = .ok (.aload_n 0, 1) := by decide +kernel
theorem dX1_enter_11 : decode cX1_enter 11 = .ok (.getfield 40, 3) := by decide +kernel
theorem dX1_enter_14 : decode cX1_enter 14 = .ok (.iload_n 1, 1) := by decide +kernel
theorem dX1_enter_15 : decode cX1_enter 15 = .ok (.iaload, 1) := by decide +kernel
theorem dX1_enter_16 : decode cX1_enter 16 = .ok (.iconst 1, 1) := by decide +kernel
theorem dX1_enter_17 : decode cX1_enter 17 = .ok (.iadd, 1) := by decide +kernel
theorem dX1_enter_18 : decode cX1_enter 18 = .ok (.iastore, 1) := by decide +kernel
theorem dX1_enter_19 : decode cX1_enter 19 = .ok (.iconst 0, 1) := by decide +kernel
theorem dX1_enter_20 : decode cX1_enter 20 = .ok (.istore_n 2, 1) := by decide +kernel
theorem dX1_enter_21 : decode cX1_enter 21 = .ok (.iload_n 2, 1) := by decide +kernel
theorem dX1_enter_22 : decode cX1_enter 22 = .ok (.aload_n 0, 1) := by decide +kernel
theorem dX1_enter_23 : decode cX1_enter 23 = .ok (.getfield 7, 3) := by decide +kernel
theorem dX1_enter_26 : decode cX1_enter 26 = .ok (.iload_n 1, 1) := by decide +kernel
theorem dX1_enter_27 : decode cX1_enter 27 = .ok (.iaload, 1) := by decide +kernel
theorem dX1_enter_28 : decode cX1_enter 28 = .ok (.if_icmp .ge 18, 3) := by decide +kernel
theorem dX1_enter_31 : decode cX1_enter 31 = .ok (.aload_n 0, 1) := by decide +kernel
theorem dX1_enter_32 : decode cX1_enter 32 = .ok (.iload_n 1, 1) := by decide +kernel
theorem dX1_enter_33 : decode cX1_enter 33 = .ok (.iconst 3, 1) := by decide +kernel
theorem dX1_enter_34 : decode cX1_enter 34 = .ok (.imul, 1) := by decide +kernel
theorem dX1_enter_35 : decode cX1_enter 35 = .ok (.iload_n 2, 1) := by decide +kernel
theorem dX1_enter_36 : decode cX1_enter 36 = .ok (.iadd, 1) := by decide +kernel
theorem dX1_enter_37 : decode cX1_enter 37 = .ok (.invokevirtual 61, 3) := by decide +kernel
theorem dX1_enter_40 : decode cX1_enter 40 = .ok (.iinc 2 1, 3) := by decide +kernel
theorem dX1_enter_43 : decode cX1_enter 43 = .ok (.goto (-22), 3) := by decide +kernel
theorem dX1_enter_46 : decode cX1_enter 46 = .ok (.return_, 1) := by decide +kernel
theorem dX1_carryOut_0 : decode cX1_carryOut 0 = .ok (.aload_n 0, 1) := by decide +kernel
theorem dX1_carryOut_1 : decode cX1_carryOut 1 = .ok (.getfield 16, 3) := by decide +kernel
theorem dX1_carryOut_4 : decode cX1_carryOut 4 = .ok (.iload_n 1, 1) := by decide +kernel
theorem dX1_carryOut_5 : decode cX1_carryOut 5 = .ok (.iaload, 1) := by decide +kernel
theorem dX1_carryOut_6 : decode cX1_carryOut 6 = .ok (.istore_n 2, 1) := by decide +kernel
theorem dX1_carryOut_7 : decode cX1_carryOut 7 = .ok (.aload_n 0, 1) := by decide +kernel
theorem dX1_carryOut_8 : decode cX1_carryOut 8 = .ok (.getfield 19, 3) := by decide +kernel
theorem dX1_carryOut_11 : decode cX1_carryOut 11 = .ok (.iload_n 1, 1) := by decide +kernel
theorem dX1_carryOut_12 : decode cX1_carryOut 12 = .ok (.iaload, 1) := by decide +kernel
theorem dX1_carryOut_13 : decode cX1_carryOut 13 = .ok (.istore_n 3, 1) := by decide +kernel
theorem dX1_carryOut_14 : decode cX1_carryOut 14 = .ok (.aload_n 0, 1) := by decide +kernel
theorem dX1_carryOut_15 : decode cX1_carryOut 15 = .ok (.iload_n 3, 1) := by decide +kernel
theorem dX1_carryOut_16 : decode cX1_carryOut 16 = .ok (.invokevirtual 51, 3) := by decide +kernel
theorem dX1_carryOut_19 : decode cX1_carryOut 19 = .ok (.ifCond .eq 7, 3) := by decide +kernel
theorem dX1_carryOut_22 : decode cX1_carryOut 22 = .ok (.iconst 0, 1) := by decide +kernel
theorem dX1_carryOut_23 : decode cX1_carryOut 23 = .ok (.goto 9, 3) := by decide +kernel
theorem dX1_carryOut_26 : decode cX1_carryOut 26 = .ok (.aload_n 0, 1) := by decide +kernel
theorem dX1_carryOut_27 : decode cX1_carryOut 27 = .ok (.getfield 34, 3) := by decide +kernel
theorem dX1_carryOut_30 : decode cX1_carryOut 30 = .ok (.iload_n 3, 1) := by decide +kernel
theorem dX1_carryOut_31 : decode cX1_carryOut 31 = .ok (.iaload, 1) := by decide +kernel
theorem dX1_carryOut_32 : decode cX1_carryOut 32 = .ok (.istore 4, 2) := by decide +kernel
theorem dX1_carryOut_34 : decode cX1_carryOut 34 = .ok (.aload_n 0, 1) := by decide +kernel
theorem dX1_carryOut_35 : decode cX1_carryOut 35 = .ok (.getfield 13, 3) := by decide +kernel
theorem dX1_carryOut_38 : decode cX1_carryOut 38 = .ok (.iload_n 1, 1) := by decide +kernel
theorem dX1_carryOut_39 : decode cX1_carryOut 39 = .ok (.iaload, 1) := by decide +kernel
theorem dX1_carryOut_40 : decode cX1_carryOut 40 = .ok (.ifCond .ne 13, 3) := by decide +kernel
theorem dX1_carryOut_43 : decode cX1_carryOut 43 = .ok (.aload_n 0, 1) := by decide +kernel
theorem dX1_carryOut_44 : decode cX1_carryOut 44 = .ok (.getfield 34, 3) := by decide +kernel
theorem dX1_carryOut_47 : decode cX1_carryOut 47 = .ok (.iload_n 2, 1) := by decide +kernel
theorem dX1_carryOut_48 : decode cX1_carryOut 48 = .ok (.iload_n 3, 1) := by decide +kernel
theorem dX1_carryOut_49 : decode cX1_carryOut 49 = .ok (.iastore, 1) := by decide +kernel
theorem dX1_carryOut_50 : decode cX1_carryOut 50 = .ok (.goto 124, 3) := by decide +kernel
theorem dX1_carryOut_53 : decode cX1_carryOut 53 = .ok (.aload_n 0, 1) := by decide +kernel
theorem dX1_carryOut_54 : decode cX1_carryOut 54 = .ok (.getfield 13, 3) := by decide +kernel
theorem dX1_carryOut_57 : decode cX1_carryOut 57 = .ok (.iload_n 1, 1) := by decide +kernel
theorem dX1_carryOut_58 : decode cX1_carryOut 58 = .ok (.iaload, 1) := by decide +kernel
theorem dX1_carryOut_59 : decode cX1_carryOut 59 = .ok (.iconst 1, 1) := by decide +kernel
theorem dX1_carryOut_60 : decode cX1_carryOut 60 = .ok (.if_icmp .ne 21, 3) := by decide +kernel
theorem dX1_carryOut_63 : decode cX1_carryOut 63 = .ok (.aload_n 0, 1) := by decide +kernel
theorem dX1_carryOut_64 : decode cX1_carryOut 64 = .ok (.getfield 34, 3) := by decide +kernel
theorem dX1_carryOut_67 : decode cX1_carryOut 67 = .ok (.iload_n 2, 1) := by decide +kernel
theorem dX1_carryOut_68 : decode cX1_carryOut 68 = .ok (.aload_n 0, 1) := by decide +kernel
theorem dX1_carryOut_69 : decode cX1_carryOut 69 = .ok (.getfield 34, 3) := by decide +kernel
theorem dX1_carryOut_72 : decode cX1_carryOut 72 = .ok (.iload_n 2, 1) := by decide +kernel
theorem dX1_carryOut_73 : decode cX1_carryOut 73 = .ok (.iaload, 1) := by decide +kernel
theorem dX1_carryOut_74 : decode cX1_carryOut 74 = .ok (.iload 4, 2) := by decide +kernel
theorem dX1_carryOut_76 : decode cX1_carryOut 76 = .ok (.iadd, 1) := by decide +kernel
theorem dX1_carryOut_77 : decode cX1_carryOut 77 = .ok (.iastore, 1) := by decide +kernel
theorem dX1_carryOut_78 : decode cX1_carryOut 78 = .ok (.goto 96, 3) := by decide +kernel
theorem dX1_carryOut_81 : decode cX1_carryOut 81 = .ok (.aload_n 0, 1) := by decide +kernel
theorem dX1_carryOut_82 : decode cX1_carryOut 82 = .ok (.getfield 13, 3) := by decide +kernel
theorem dX1_carryOut_85 : decode cX1_carryOut 85 = .ok (.iload_n 1, 1) := by decide +kernel
theorem dX1_carryOut_86 : decode cX1_carryOut 86 = .ok (.iaload, 1) := by decide +kernel
theorem dX1_carryOut_87 : decode cX1_carryOut 87 = .ok (.iconst 2, 1) := by decide +kernel
theorem dX1_carryOut_88 : decode cX1_carryOut 88 = .ok (.if_icmp .ne 21, 3) := by decide +kernel
theorem dX1_carryOut_91 : decode cX1_carryOut 91 = .ok (.aload_n 0, 1) := by decide +kernel
theorem dX1_carryOut_92 : decode cX1_carryOut 92 = .ok (.getfield 34, 3) := by decide +kernel
theorem dX1_carryOut_95 : decode cX1_carryOut 95 = .ok (.iload_n 2, 1) := by decide +kernel
theorem dX1_carryOut_96 : decode cX1_carryOut 96 = .ok (.aload_n 0, 1) := by decide +kernel
theorem dX1_carryOut_97 : decode cX1_carryOut 97 = .ok (.getfield 34, 3) := by decide +kernel
theorem dX1_carryOut_100 : decode cX1_carryOut 100 = .ok (.iload_n 2, 1) := by decide +kernel
theorem dX1_carryOut_101 : decode cX1_carryOut 101 = .ok (.iaload, 1) := by decide +kernel
theorem dX1_carryOut_102 : decode cX1_carryOut 102 = .ok (.iload 4, 2) := by decide +kernel
theorem dX1_carryOut_104 : decode cX1_carryOut 104 = .ok (.isub, 1) := by decide +kernel
theorem dX1_carryOut_105 : decode cX1_carryOut 105 = .ok (.iastore, 1) := by decide +kernel
theorem dX1_carryOut_106 : decode cX1_carryOut 106 = .ok (.goto 68, 3) := by decide +kernel
theorem dX1_carryOut_109 : decode cX1_carryOut 109 = .ok (.aload_n 0, 1) := by decide +kernel
theorem dX1_carryOut_110 : decode cX1_carryOut 110 = .ok (.getfield 13, 3) := by decide +kernel
theorem dX1_carryOut_113 : decode cX1_carryOut 113 = .ok (.iload_n 1, 1) := by decide +kernel
theorem dX1_carryOut_114 : decode cX1_carryOut 114 = .ok (.iaload, 1) := by decide +kernel
theorem dX1_carryOut_115 : decode cX1_carryOut 115 = .ok (.iconst 3, 1) := by decide +kernel
theorem dX1_carryOut_116 : decode cX1_carryOut 116 = .ok (.if_icmp .ne 21, 3) := by decide +kernel
theorem dX1_carryOut_119 : decode cX1_carryOut 119 = .ok (.aload_n 0, 1) := by decide +kernel
theorem dX1_carryOut_120 : decode cX1_carryOut 120 = .ok (.getfield 34, 3) := by decide +kernel
theorem dX1_carryOut_123 : decode cX1_carryOut 123 = .ok (.iload_n 2, 1) := by decide +kernel
theorem dX1_carryOut_124 : decode cX1_carryOut 124 = .ok (.aload_n 0, 1) := by decide +kernel
theorem dX1_carryOut_125 : decode cX1_carryOut 125 = .ok (.getfield 34, 3) := by decide +kernel
theorem dX1_carryOut_128 : decode cX1_carryOut 128 = .ok (.iload_n 2, 1) := by decide +kernel
theorem dX1_carryOut_129 : decode cX1_carryOut 129 = .ok (.iaload, 1) := by decide +kernel
theorem dX1_carryOut_130 : decode cX1_carryOut 130 = .ok (.iload 4, 2) := by decide +kernel
theorem dX1_carryOut_132 : decode cX1_carryOut 132 = .ok (.imul, 1) := by decide +kernel
theorem dX1_carryOut_133 : decode cX1_carryOut 133 = .ok (.iastore, 1) := by decide +kernel
theorem dX1_carryOut_134 : decode cX1_carryOut 134 = .ok (.goto 40, 3) := by decide +kernel
theorem dX1_carryOut_137 : decode cX1_carryOut 137 = .ok (.aload_n 0, 1) := by decide +kernel
theorem dX1_carryOut_138 : decode cX1_carryOut 138 = .ok (.getfield 13, 3) := by decide +kernel
theorem dX1_carryOut_141 : decode cX1_carryOut 141 = .ok (.iload_n 1, 1) := by decide +kernel
theorem dX1_carryOut_142 : decode cX1_carryOut 142 = .ok (.iaload, 1) := by decide +kernel
theorem dX1_carryOut_143 : decode cX1_carryOut 143 = .ok (.iconst 4, 1) := by decide +kernel
theorem dX1_carryOut_144 : decode cX1_carryOut 144 = .ok (.if_icmp .ne 20, 3) := by decide +kernel
theorem dX1_carryOut_147 : decode cX1_carryOut 147 = .ok (.aload_n 0, 1) := by decide +kernel
theorem dX1_carryOut_148 : decode cX1_carryOut 148 = .ok (.getfield 34, 3) := by decide +kernel
theorem dX1_carryOut_151 : decode cX1_carryOut 151 = .ok (.iload_n 2, 1) := by decide +kernel
theorem dX1_carryOut_152 : decode cX1_carryOut 152 = .ok (.aload_n 0, 1) := by decide +kernel
theorem dX1_carryOut_153 : decode cX1_carryOut 153 = .ok (.getfield 34, 3) := by decide +kernel
theorem dX1_carryOut_156 : decode cX1_carryOut 156 = .ok (.iload_n 2, 1) := by decide +kernel
theorem dX1_carryOut_157 : decode cX1_carryOut 157 = .ok (.iaload, 1) := by decide +kernel
theorem dX1_carryOut_158 : decode cX1_carryOut 158 = .ok (.iload_n 3, 1) := by decide +kernel
theorem dX1_carryOut_159 : decode cX1_carryOut 159 = .ok (.iadd, 1) := by decide +kernel
theorem dX1_carryOut_160 : decode cX1_carryOut 160 = .ok (.iastore, 1) := by decide +kernel
theorem dX1_carryOut_161 : decode cX1_carryOut 161 = .ok (.goto 13, 3) := by decide +kernel
theorem dX1_carryOut_164 : decode cX1_carryOut 164 = .ok (.aload_n 0, 1) := by decide +kernel
theorem dX1_carryOut_165 : decode cX1_carryOut 165 = .ok (.aload_n 0, 1) := by decide +kernel
theorem dX1_carryOut_166 : decode cX1_carryOut 166 = .ok (.getfield 34, 3) := by decide +kernel
theorem dX1_carryOut_169 : decode cX1_carryOut 169 = .ok (.iload_n 2, 1) := by decide +kernel
theorem dX1_carryOut_170 : decode cX1_carryOut 170 = .ok (.iaload, 1) := by decide +kernel
theorem dX1_carryOut_171 : decode cX1_carryOut 171 = .ok (.invokevirtual 57, 3) := by decide +kernel
theorem dX1_carryOut_174 : decode cX1_carryOut 174 = .ok (.return_, 1) := by decide +kernel
theorem dX1_out_0 : decode cX1_out 0 = .ok (.bipush 15, 2) := by decide +kernel
theorem dX1_out_2 : decode cX1_out 2 = .ok (.istore_n 2, 1) := by decide +kernel
theorem dX1_out_3 : decode cX1_out 3 = .ok (.iload_n 2, 1) := by decide +kernel
theorem dX1_out_4 : decode cX1_out 4 = .ok (.ifCond .le 23, 3) := by decide +kernel
theorem dX1_out_7 : decode cX1_out 7 = .ok (.aload_n 0, 1) := by decide +kernel
theorem dX1_out_8 : decode cX1_out 8 = .ok (.getfield 37, 3) := by decide +kernel
theorem dX1_out_11 : decode cX1_out 11 = .ok (.iload_n 2, 1) := by decide +kernel
theorem dX1_out_12 : decode cX1_out 12 = .ok (.aload_n 0, 1) := by decide +kernel
theorem dX1_out_13 : decode cX1_out 13 = .ok (.getfield 37, 3) := by decide +kernel
theorem dX1_out_16 : decode cX1_out 16 = .ok (.iload_n 2, 1) := by decide +kernel
theorem dX1_out_17 : decode cX1_out 17 = .ok (.iconst 1, 1) := by decide +kernel
theorem dX1_out_18 : decode cX1_out 18 = .ok (.isub, 1) := by decide +kernel
theorem dX1_out_19 : decode cX1_out 19 = .ok (.iaload, 1) := by decide +kernel
theorem dX1_out_20 : decode cX1_out 20 = .ok (.iastore, 1) := by decide +kernel
theorem dX1_out_21 : decode cX1_out 21 = .ok (.iinc 2 (-1), 3) := by decide +kernel
theorem dX1_out_24 : decode cX1_out 24 = .ok (.goto (-21), 3) := by decide +kernel
theorem dX1_out_27 : decode cX1_out 27 = .ok (.aload_n 0, 1) := by decide +kernel
theorem dX1_out_28 : decode cX1_out 28 = .ok (.getfield 37, 3) := by decide +kernel
theorem dX1_out_31 : decode cX1_out 31 = .ok (.iconst 0, 1) := by decide +kernel
theorem dX1_out_32 : decode cX1_out 32 = .ok (.iload_n 1, 1) := by decide +kernel
theorem dX1_out_33 : decode cX1_out 33 = .ok (.iastore, 1) := by decide +kernel
theorem dX1_out_34 : decode cX1_out 34 = .ok (.aload_n 0, 1) := by decide +kernel
theorem dX1_out_35 : decode cX1_out 35 = .ok (.aload_n 0, 1) := by decide +kernel
theorem dX1_out_36 : decode cX1_out 36 = .ok (.getfield 54, 3) := by decide +kernel
theorem dX1_out_39 : decode cX1_out 39 = .ok (.iconst 1, 1) := by decide +kernel
theorem dX1_out_40 : decode cX1_out 40 = .ok (.iadd, 1) := by decide +kernel
theorem dX1_out_41 : decode cX1_out 41 = .ok (.putfield 54, 3) := by decide +kernel
theorem dX1_out_44 : decode cX1_out 44 = .ok (.return_, 1) := by decide +kernel
theorem dX1_get_0 : decode cX1_get 0 = .ok (.aload_n 0, 1) := by decide +kernel
theorem dX1_get_1 : decode cX1_get 1 = .ok (.iload_n 1, 1) := by decide +kernel
theorem dX1_get_2 : decode cX1_get 2 = .ok (.invokevirtual 51, 3) := by decide +kernel
theorem dX1_get_5 : decode cX1_get 5 = .ok (.ifCond .eq 7, 3) := by decide +kernel
theorem dX1_get_8 : decode cX1_get 8 = .ok (.iconst 0, 1) := by decide +kernel
theorem dX1_get_9 : decode cX1_get 9 = .ok (.goto 9, 3) := by decide +kernel
theorem dX1_get_12 : decode cX1_get 12 = .ok (.aload_n 0, 1) := by decide +kernel
theorem dX1_get_13 : decode cX1_get 13 = .ok (.getfield 34, 3) := by decide +kernel
theorem dX1_get_16 : decode cX1_get 16 = .ok (.iload_n 1, 1) := by decide +kernel
theorem dX1_get_17 : decode cX1_get 17 = .ok (.iaload, 1) := by decide +kernel
theorem dX1_get_18 : decode cX1_get 18 = .ok (.ireturn, 1) := by decide +kernel
theorem dX1_outputs_0 : decode cX1_outputs 0 = .ok (.aload_n 0, 1) := by decide +kernel
theorem dX1_outputs_1 : decode cX1_outputs 1 = .ok (.getfield 54, 3) := by decide +kernel
theorem dX1_outputs_4 : decode cX1_outputs 4 = .ok (.ireturn, 1) := by decide +kernel
theorem dX1_output_0 : decode cX1_output 0 = .ok (.iload_n 1, 1) := by decide +kernel
theorem dX1_output_1 : decode cX1_output 1 = .ok (.ifCond .lt 17, 3) := by decide +kernel
theorem dX1_output_4 : decode cX1_output 4 = .ok (.iload_n 1, 1) := by decide +kernel
theorem dX1_output_5 : decode cX1_output 5 = .ok (.bipush 15, 2) := by decide +kernel
theorem dX1_output_7 : decode cX1_output 7 = .ok (.if_icmp .gt 11, 3) := by decide +kernel
theorem dX1_output_10 : decode cX1_output 10 = .ok (.iload_n 1, 1) := by decide +kernel
theorem dX1_output_11 : decode cX1_output 11 = .ok (.aload_n 0, 1) := by decide +kernel
theorem dX1_output_12 : decode cX1_output 12 = .ok (.getfield 54, 3) := by decide +kernel
theorem dX1_output_15 : decode cX1_output 15 = .ok (.if_icmp .lt 7, 3) := by decide +kernel
theorem dX1_output_18 : decode cX1_output 18 = .ok (.iconst 0, 1) := by decide +kernel
theorem dX1_output_19 : decode cX1_output 19 = .ok (.goto 9, 3) := by decide +kernel
theorem dX1_output_22 : decode cX1_output 22 = .ok (.aload_n 0, 1) := by decide +kernel
theorem dX1_output_23 : decode cX1_output 23 = .ok (.getfield 37, 3) := by decide +kernel
theorem dX1_output_26 : decode cX1_output 26 = .ok (.iload_n 1, 1) := by decide +kernel
theorem dX1_output_27 : decode cX1_output 27 = .ok (.iaload, 1) := by decide +kernel
theorem dX1_output_28 : decode cX1_output 28 = .ok (.ireturn, 1) := by decide +kernel
theorem dX1_visits_0 : decode cX1_visits 0 = .ok (.aload_n 0, 1) := by decide +kernel
theorem dX1_visits_1 : decode cX1_visits 1 = .ok (.iload_n 1, 1) := by decide +kernel
theorem dX1_visits_2 : decode cX1_visits 2 = .ok (.invokevirtual 47, 3) := by decide +kernel
theorem dX1_visits_5 : decode cX1_visits 5 = .ok (.ifCond .eq 7, 3) := by decide +kernel
theorem dX1_visits_8 : decode cX1_visits 8 = .ok (.iconst (-1), 1) := by decide +kernel
theorem dX1_visits_9 : decode cX1_visits 9 = .ok (.goto 9, 3) := by decide +kernel
theorem dX1_visits_12 : decode cX1_visits 12 = .ok (.aload_n 0, 1) := by decide +kernel
theorem dX1_visits_13 : decode cX1_visits 13 = .ok (.getfield 40, 3) := by decide +kernel
theorem dX1_visits_16 : decode cX1_visits 16 = .ok (.iload_n 1, 1) := by decide +kernel
theorem dX1_visits_17 : decode cX1_visits 17 = .ok (.iaload, 1) := by decide +kernel
theorem dX1_visits_18 : decode cX1_visits 18 = .ok (.ireturn, 1) := by decide +kernel
theorem dX1_last_0 : decode cX1_last 0 = .ok (.aload_n 0, 1) := by decide +kernel
theorem dX1_last_1 : decode cX1_last 1 = .ok (.getfield 43, 3) := by decide +kernel
theorem dX1_last_4 : decode cX1_last 4 = .ok (.ireturn, 1) := by decide +kernel
theorem dX1_reachable_0 : decode cX1_reachable 0 = .ok (.iconst 1, 1) := by decide +kernel
theorem dX1_reachable_1 : decode cX1_reachable 1 = .ok (.istore_n 1, 1) := by decide +kernel
theorem dX1_reachable_2 : decode cX1_reachable 2 = .ok (.iconst 0, 1) := by decide +kernel
theorem dX1_reachable_3 : decode cX1_reachable 3 = .ok (.istore_n 2, 1) := by decide +kernel
theorem dX1_reachable_4 : decode cX1_reachable 4 = .ok (.iload_n 2, 1) := by decide +kernel
theorem dX1_reachable_5 : decode cX1_reachable 5 = .ok (.bipush 10, 2) := by decide +kernel
theorem dX1_reachable_7 : decode cX1_reachable 7 = .ok (.if_icmp .ge 77, 3) := by decide +kernel
theorem dX1_reachable_10 : decode cX1_reachable 10 = .ok (.iconst 0, 1) := by decide +kernel
theorem dX1_reachable_11 : decode cX1_reachable 11 = .ok (.istore_n 3, 1) := by decide +kernel
theorem dX1_reachable_12 : decode cX1_reachable 12 = .ok (.iload_n 3, 1) := by decide +kernel
theorem dX1_reachable_13 : decode cX1_reachable 13 = .ok (.bipush 10, 2) := by decide +kernel
theorem dX1_reachable_15 : decode cX1_reachable 15 = .ok (.if_icmp .ge 63, 3) := by decide +kernel
theorem dX1_reachable_18 : decode cX1_reachable 18 = .ok (.iload_n 1, 1) := by decide +kernel
theorem dX1_reachable_19 : decode cX1_reachable 19 = .ok (.iload_n 3, 1) := by decide +kernel
theorem dX1_reachable_20 : decode cX1_reachable 20 = .ok (.ishr, 1) := by decide +kernel
theorem dX1_reachable_21 : decode cX1_reachable 21 = .ok (.iconst 1, 1) := by decide +kernel
theorem dX1_reachable_22 : decode cX1_reachable 22 = .ok (.iand, 1) := by decide +kernel
theorem dX1_reachable_23 : decode cX1_reachable 23 = .ok (.iconst 1, 1) := by decide +kernel
theorem dX1_reachable_24 : decode cX1_reachable 24 = .ok (.if_icmp .ne 48, 3) := by decide +kernel
theorem dX1_reachable_27 : decode cX1_reachable 27 = .ok (.aload_n 0, 1) := by decide +kernel
theorem dX1_reachable_28 : decode cX1_reachable 28 = .ok (.getfield 22, 3) := by decide +kernel
theorem dX1_reachable_31 : decode cX1_reachable 31 = .ok (.iload_n 3, 1) := by decide +kernel
theorem dX1_reachable_32 : decode cX1_reachable 32 = .ok (.iaload, 1) := by decide +kernel
theorem dX1_reachable_33 : decode cX1_reachable 33 = .ok (.ifCond .le 39, 3) := by decide +kernel
theorem dX1_reachable_36 : decode cX1_reachable 36 = .ok (.iload_n 1, 1) := by decide +kernel
theorem dX1_reachable_37 : decode cX1_reachable 37 = .ok (.iconst 1, 1) := by decide +kernel
theorem dX1_reachable_38 : decode cX1_reachable 38 = .ok (.aload_n 0, 1) := by decide +kernel
theorem dX1_reachable_39 : decode cX1_reachable 39 = .ok (.getfield 28, 3) := by decide +kernel
theorem dX1_reachable_42 : decode cX1_reachable 42 = .ok (.iload_n 3, 1) := by decide +kernel
theorem dX1_reachable_43 : decode cX1_reachable 43 = .ok (.iaload, 1) := by decide +kernel
theorem dX1_reachable_44 : decode cX1_reachable 44 = .ok (.ishl, 1) := by decide +kernel
theorem dX1_reachable_45 : decode cX1_reachable 45 = .ok (.ior, 1) := by decide +kernel
theorem dX1_reachable_46 : decode cX1_reachable 46 = .ok (.istore_n 1, 1) := by decide +kernel
theorem dX1_reachable_47 : decode cX1_reachable 47 = .ok (.aload_n 0, 1) := by decide +kernel
theorem dX1_reachable_48 : decode cX1_reachable 48 = .ok (.getfield 22, 3) := by decide +kernel
theorem dX1_reachable_51 : decode cX1_reachable 51 = .ok (.iload_n 3, 1) := by decide +kernel
theorem dX1_reachable_52 : decode cX1_reachable 52 = .ok (.iaload, 1) := by decide +kernel
theorem dX1_reachable_53 : decode cX1_reachable 53 = .ok (.iconst 2, 1) := by decide +kernel
theorem dX1_reachable_54 : decode cX1_reachable 54 = .ok (.if_icmp .ne 16, 3) := by decide +kernel
theorem dX1_reachable_57 : decode cX1_reachable 57 = .ok (.iload_n 1, 1) := by decide +kernel
theorem dX1_reachable_58 : decode cX1_reachable 58 = .ok (.iconst 1, 1) := by decide +kernel
theorem dX1_reachable_59 : decode cX1_reachable 59 = .ok (.aload_n 0, 1) := by decide +kernel
theorem dX1_reachable_60 : decode cX1_reachable 60 = .ok (.getfield 31, 3) := by decide +kernel
theorem dX1_reachable_63 : decode cX1_reachable 63 = .ok (.iload_n 3, 1) := by decide +kernel
theorem dX1_reachable_64 : decode cX1_reachable 64 = .ok (.iaload, 1) := by decide +kernel
theorem dX1_reachable_65 : decode cX1_reachable 65 = .ok (.ishl, 1) := by decide +kernel
theorem dX1_reachable_66 : decode cX1_reachable 66 = .ok (.ior, 1) := by decide +kernel
theorem dX1_reachable_67 : decode cX1_reachable 67 = .ok (.goto 4, 3) := by decide +kernel
theorem dX1_reachable_70 : decode cX1_reachable 70 = .ok (.iload_n 1, 1) := by decide +kernel
theorem dX1_reachable_71 : decode cX1_reachable 71 = .ok (.istore_n 1, 1) := by decide +kernel
theorem dX1_reachable_72 : decode cX1_reachable 72 = .ok (.iinc 3 1, 3) := by decide +kernel
theorem dX1_reachable_75 : decode cX1_reachable 75 = .ok (.goto (-63), 3) := by decide +kernel
theorem dX1_reachable_78 : decode cX1_reachable 78 = .ok (.iinc 2 1, 3) := by decide +kernel
theorem dX1_reachable_81 : decode cX1_reachable 81 = .ok (.goto (-77), 3) := by decide +kernel
theorem dX1_reachable_84 : decode cX1_reachable 84 = .ok (.iconst 0, 1) := by decide +kernel
theorem dX1_reachable_85 : decode cX1_reachable 85 = .ok (.istore_n 2, 1) := by decide +kernel
theorem dX1_reachable_86 : decode cX1_reachable 86 = .ok (.iconst 0, 1) := by decide +kernel
theorem dX1_reachable_87 : decode cX1_reachable 87 = .ok (.istore_n 3, 1) := by decide +kernel
theorem dX1_reachable_88 : decode cX1_reachable 88 = .ok (.iload_n 3, 1) := by decide +kernel
theorem dX1_reachable_89 : decode cX1_reachable 89 = .ok (.bipush 10, 2) := by decide +kernel
theorem dX1_reachable_91 : decode cX1_reachable 91 = .ok (.if_icmp .ge 17, 3) := by decide +kernel
theorem dX1_reachable_94 : decode cX1_reachable 94 = .ok (.iload_n 2, 1) := by decide +kernel
theorem dX1_reachable_95 : decode cX1_reachable 95 = .ok (.iload_n 1, 1) := by decide +kernel
theorem dX1_reachable_96 : decode cX1_reachable 96 = .ok (.iload_n 3, 1) := by decide +kernel
theorem dX1_reachable_97 : decode cX1_reachable 97 = .ok (.ishr, 1) := by decide +kernel
theorem dX1_reachable_98 : decode cX1_reachable 98 = .ok (.iconst 1, 1) := by decide +kernel
theorem dX1_reachable_99 : decode cX1_reachable 99 = .ok (.iand, 1) := by decide +kernel
theorem dX1_reachable_100 : decode cX1_reachable 100 = .ok (.iadd, 1) := by decide +kernel
theorem dX1_reachable_101 : decode cX1_reachable 101 = .ok (.istore_n 2, 1) := by decide +kernel
theorem dX1_reachable_102 : decode cX1_reachable 102 = .ok (.iinc 3 1, 3) := by decide +kernel
theorem dX1_reachable_105 : decode cX1_reachable 105 = .ok (.goto (-17), 3) := by decide +kernel
theorem dX1_reachable_108 : decode cX1_reachable 108 = .ok (.iload_n 2, 1) := by decide +kernel
theorem dX1_reachable_109 : decode cX1_reachable 109 = .ok (.ireturn, 1) := by decide +kernel
theorem dL_law_0 : decode cL_law 0 = .ok (.new 7, 3) := by decide +kernel
theorem dL_law_3 : decode cL_law 3 = .ok (.dup, 1) := by decide +kernel
theorem dL_law_4 : decode cL_law 4 = .ok (.invokespecial 9, 3) := by decide +kernel
theorem dL_law_7 : decode cL_law 7 = .ok (.astore_n 1, 1) := by decide +kernel
theorem dL_law_8 : decode cL_law 8 = .ok (.new 10, 3) := by decide +kernel
theorem dL_law_11 : decode cL_law 11 = .ok (.dup, 1) := by decide +kernel
theorem dL_law_12 : decode cL_law 12 = .ok (.invokespecial 12, 3) := by decide +kernel
theorem dL_law_15 : decode cL_law 15 = .ok (.astore_n 2, 1) := by decide +kernel
theorem dL_law_16 : decode cL_law 16 = .ok (.iconst 0, 1) := by decide +kernel
theorem dL_law_17 : decode cL_law 17 = .ok (.istore_n 3, 1) := by decide +kernel
theorem dL_law_18 : decode cL_law 18 = .ok (.iload_n 3, 1) := by decide +kernel
theorem dL_law_19 : decode cL_law 19 = .ok (.aload_n 0, 1) := by decide +kernel
theorem dL_law_20 : decode cL_law 20 = .ok (.arraylength, 1) := by decide +kernel
theorem dL_law_21 : decode cL_law 21 = .ok (.iconst 5, 1) := by decide +kernel
theorem dL_law_22 : decode cL_law 22 = .ok (.isub, 1) := by decide +kernel
theorem dL_law_23 : decode cL_law 23 = .ok (.if_icmp .gt 422, 3) := by decide +kernel
theorem dL_law_26 : decode cL_law 26 = .ok (.aload_n 0, 1) := by decide +kernel
theorem dL_law_27 : decode cL_law 27 = .ok (.iload_n 3, 1) := by decide +kernel
theorem dL_law_28 : decode cL_law 28 = .ok (.iaload, 1) := by decide +kernel
theorem dL_law_29 : decode cL_law 29 = .ok (.bipush 15, 2) := by decide +kernel
theorem dL_law_31 : decode cL_law 31 = .ok (.iand, 1) := by decide +kernel
theorem dL_law_32 : decode cL_law 32 = .ok (.tableswitch 407 0 12 #[68, 121, 144, 167, 200, 253, 286, 299, 322, 335, 358, 381, 394], 68) := by decide +kernel
theorem dL_law_100 : decode cL_law 100 = .ok (.aload_n 1, 1) := by decide +kernel
theorem dL_law_101 : decode cL_law 101 = .ok (.aload_n 0, 1) := by decide +kernel
theorem dL_law_102 : decode cL_law 102 = .ok (.iload_n 3, 1) := by decide +kernel
theorem dL_law_103 : decode cL_law 103 = .ok (.iconst 1, 1) := by decide +kernel
theorem dL_law_104 : decode cL_law 104 = .ok (.iadd, 1) := by decide +kernel
theorem dL_law_105 : decode cL_law 105 = .ok (.iaload, 1) := by decide +kernel
theorem dL_law_106 : decode cL_law 106 = .ok (.aload_n 0, 1) := by decide +kernel
theorem dL_law_107 : decode cL_law 107 = .ok (.iload_n 3, 1) := by decide +kernel
theorem dL_law_108 : decode cL_law 108 = .ok (.iconst 2, 1) := by decide +kernel
theorem dL_law_109 : decode cL_law 109 = .ok (.iadd, 1) := by decide +kernel
theorem dL_law_110 : decode cL_law 110 = .ok (.iaload, 1) := by decide +kernel
theorem dL_law_111 : decode cL_law 111 = .ok (.aload_n 0, 1) := by decide +kernel
theorem dL_law_112 : decode cL_law 112 = .ok (.iload_n 3, 1) := by decide +kernel
theorem dL_law_113 : decode cL_law 113 = .ok (.iconst 3, 1) := by decide +kernel
theorem dL_law_114 : decode cL_law 114 = .ok (.iadd, 1) := by decide +kernel
theorem dL_law_115 : decode cL_law 115 = .ok (.iaload, 1) := by decide +kernel
theorem dL_law_116 : decode cL_law 116 = .ok (.aload_n 0, 1) := by decide +kernel
theorem dL_law_117 : decode cL_law 117 = .ok (.iload_n 3, 1) := by decide +kernel
theorem dL_law_118 : decode cL_law 118 = .ok (.iconst 4, 1) := by decide +kernel
theorem dL_law_119 : decode cL_law 119 = .ok (.iadd, 1) := by decide +kernel
theorem dL_law_120 : decode cL_law 120 = .ok (.iaload, 1) := by decide +kernel
theorem dL_law_121 : decode cL_law 121 = .ok (.invokevirtual 13, 3) := by decide +kernel
theorem dL_law_124 : decode cL_law 124 = .ok (.aload_n 2, 1) := by decide +kernel
theorem dL_law_125 : decode cL_law 125 = .ok (.aload_n 0, 1) := by decide +kernel
theorem dL_law_126 : decode cL_law 126 = .ok (.iload_n 3, 1) := by decide +kernel
theorem dL_law_127 : decode cL_law 127 = .ok (.iconst 1, 1) := by decide +kernel
theorem dL_law_128 : decode cL_law 128 = .ok (.iadd, 1) := by decide +kernel
theorem dL_law_129 : decode cL_law 129 = .ok (.iaload, 1) := by decide +kernel
theorem dL_law_130 : decode cL_law 130 = .ok (.aload_n 0, 1) := by decide +kernel
theorem dL_law_131 : decode cL_law 131 = .ok (.iload_n 3, 1) := by decide +kernel
theorem dL_law_132 : decode cL_law 132 = .ok (.iconst 2, 1) := by decide +kernel
theorem dL_law_133 : decode cL_law 133 = .ok (.iadd, 1) := by decide +kernel
theorem dL_law_134 : decode cL_law 134 = .ok (.iaload, 1) := by decide +kernel
theorem dL_law_135 : decode cL_law 135 = .ok (.aload_n 0, 1) := by decide +kernel
theorem dL_law_136 : decode cL_law 136 = .ok (.iload_n 3, 1) := by decide +kernel
theorem dL_law_137 : decode cL_law 137 = .ok (.iconst 3, 1) := by decide +kernel
theorem dL_law_138 : decode cL_law 138 = .ok (.iadd, 1) := by decide +kernel
theorem dL_law_139 : decode cL_law 139 = .ok (.iaload, 1) := by decide +kernel
theorem dL_law_140 : decode cL_law 140 = .ok (.aload_n 0, 1) := by decide +kernel
theorem dL_law_141 : decode cL_law 141 = .ok (.iload_n 3, 1) := by decide +kernel
theorem dL_law_142 : decode cL_law 142 = .ok (.iconst 4, 1) := by decide +kernel
theorem dL_law_143 : decode cL_law 143 = .ok (.iadd, 1) := by decide +kernel
theorem dL_law_144 : decode cL_law 144 = .ok (.iaload, 1) := by decide +kernel
theorem dL_law_145 : decode cL_law 145 = .ok (.invokevirtual 17, 3) := by decide +kernel
theorem dL_law_148 : decode cL_law 148 = .ok (.if_icmp .eq 291, 3) := by decide +kernel
theorem dL_law_151 : decode cL_law 151 = .ok (.iconst 0, 1) := by decide +kernel
theorem dL_law_152 : decode cL_law 152 = .ok (.ireturn, 1) := by decide +kernel
theorem dL_law_153 : decode cL_law 153 = .ok (.aload_n 1, 1) := by decide +kernel
theorem dL_law_154 : decode cL_law 154 = .ok (.aload_n 0, 1) := by decide +kernel
theorem dL_law_155 : decode cL_law 155 = .ok (.iload_n 3, 1) := by decide +kernel
theorem dL_law_156 : decode cL_law 156 = .ok (.iconst 1, 1) := by decide +kernel
theorem dL_law_157 : decode cL_law 157 = .ok (.iadd, 1) := by decide +kernel
theorem dL_law_158 : decode cL_law 158 = .ok (.iaload, 1) := by decide +kernel
theorem dL_law_159 : decode cL_law 159 = .ok (.invokevirtual 18, 3) := by decide +kernel
theorem dL_law_162 : decode cL_law 162 = .ok (.aload_n 2, 1) := by decide +kernel
theorem dL_law_163 : decode cL_law 163 = .ok (.aload_n 0, 1) := by decide +kernel
theorem dL_law_164 : decode cL_law 164 = .ok (.iload_n 3, 1) := by decide +kernel
theorem dL_law_165 : decode cL_law 165 = .ok (.iconst 1, 1) := by decide +kernel
theorem dL_law_166 : decode cL_law 166 = .ok (.iadd, 1) := by decide +kernel
theorem dL_law_167 : decode cL_law 167 = .ok (.iaload, 1) := by decide +kernel
theorem dL_law_168 : decode cL_law 168 = .ok (.invokevirtual 22, 3) := by decide +kernel
theorem dL_law_171 : decode cL_law 171 = .ok (.if_icmp .eq 268, 3) := by decide +kernel
theorem dL_law_174 : decode cL_law 174 = .ok (.iconst 0, 1) := by decide +kernel
theorem dL_law_175 : decode cL_law 175 = .ok (.ireturn, 1) := by decide +kernel
theorem dL_law_176 : decode cL_law 176 = .ok (.aload_n 1, 1) := by decide +kernel
theorem dL_law_177 : decode cL_law 177 = .ok (.aload_n 0, 1) := by decide +kernel
theorem dL_law_178 : decode cL_law 178 = .ok (.iload_n 3, 1) := by decide +kernel
theorem dL_law_179 : decode cL_law 179 = .ok (.iconst 1, 1) := by decide +kernel
theorem dL_law_180 : decode cL_law 180 = .ok (.iadd, 1) := by decide +kernel
theorem dL_law_181 : decode cL_law 181 = .ok (.iaload, 1) := by decide +kernel
theorem dL_law_182 : decode cL_law 182 = .ok (.invokevirtual 23, 3) := by decide +kernel
theorem dL_law_185 : decode cL_law 185 = .ok (.aload_n 2, 1) := by decide +kernel
theorem dL_law_186 : decode cL_law 186 = .ok (.aload_n 0, 1) := by decide +kernel
theorem dL_law_187 : decode cL_law 187 = .ok (.iload_n 3, 1) := by decide +kernel
theorem dL_law_188 : decode cL_law 188 = .ok (.iconst 1, 1) := by decide +kernel
theorem dL_law_189 : decode cL_law 189 = .ok (.iadd, 1) := by decide +kernel
theorem dL_law_190 : decode cL_law 190 = .ok (.iaload, 1) := by decide +kernel
theorem dL_law_191 : decode cL_law 191 = .ok (.invokevirtual 26, 3) := by decide +kernel
theorem dL_law_194 : decode cL_law 194 = .ok (.if_icmp .eq 245, 3) := by decide +kernel
theorem dL_law_197 : decode cL_law 197 = .ok (.iconst 0, 1) := by decide +kernel
theorem dL_law_198 : decode cL_law 198 = .ok (.ireturn, 1) := by decide +kernel
theorem dL_law_199 : decode cL_law 199 = .ok (.aload_n 1, 1) := by decide +kernel
theorem dL_law_200 : decode cL_law 200 = .ok (.aload_n 0, 1) := by decide +kernel
theorem dL_law_201 : decode cL_law 201 = .ok (.iload_n 3, 1) := by decide +kernel
theorem dL_law_202 : decode cL_law 202 = .ok (.iconst 1, 1) := by decide +kernel
theorem dL_law_203 : decode cL_law 203 = .ok (.iadd, 1) := by decide +kernel
theorem dL_law_204 : decode cL_law 204 = .ok (.iaload, 1) := by decide +kernel
theorem dL_law_205 : decode cL_law 205 = .ok (.aload_n 0, 1) := by decide +kernel
theorem dL_law_206 : decode cL_law 206 = .ok (.iload_n 3, 1) := by decide +kernel
theorem dL_law_207 : decode cL_law 207 = .ok (.iconst 2, 1) := by decide +kernel
theorem dL_law_208 : decode cL_law 208 = .ok (.iadd, 1) := by decide +kernel
theorem dL_law_209 : decode cL_law 209 = .ok (.iaload, 1) := by decide +kernel
theorem dL_law_210 : decode cL_law 210 = .ok (.invokevirtual 27, 3) := by decide +kernel
theorem dL_law_213 : decode cL_law 213 = .ok (.aload_n 2, 1) := by decide +kernel
theorem dL_law_214 : decode cL_law 214 = .ok (.aload_n 0, 1) := by decide +kernel
theorem dL_law_215 : decode cL_law 215 = .ok (.iload_n 3, 1) := by decide +kernel
theorem dL_law_216 : decode cL_law 216 = .ok (.iconst 1, 1) := by decide +kernel
theorem dL_law_217 : decode cL_law 217 = .ok (.iadd, 1) := by decide +kernel
theorem dL_law_218 : decode cL_law 218 = .ok (.iaload, 1) := by decide +kernel
theorem dL_law_219 : decode cL_law 219 = .ok (.aload_n 0, 1) := by decide +kernel
theorem dL_law_220 : decode cL_law 220 = .ok (.iload_n 3, 1) := by decide +kernel
theorem dL_law_221 : decode cL_law 221 = .ok (.iconst 2, 1) := by decide +kernel
theorem dL_law_222 : decode cL_law 222 = .ok (.iadd, 1) := by decide +kernel
theorem dL_law_223 : decode cL_law 223 = .ok (.iaload, 1) := by decide +kernel
theorem dL_law_224 : decode cL_law 224 = .ok (.invokevirtual 31, 3) := by decide +kernel
theorem dL_law_227 : decode cL_law 227 = .ok (.if_icmp .eq 212, 3) := by decide +kernel
theorem dL_law_230 : decode cL_law 230 = .ok (.iconst 0, 1) := by decide +kernel
theorem dL_law_231 : decode cL_law 231 = .ok (.ireturn, 1) := by decide +kernel
theorem dL_law_232 : decode cL_law 232 = .ok (.aload_n 1, 1) := by decide +kernel
theorem dL_law_233 : decode cL_law 233 = .ok (.aload_n 0, 1) := by decide +kernel
theorem dL_law_234 : decode cL_law 234 = .ok (.iload_n 3, 1) := by decide +kernel
theorem dL_law_235 : decode cL_law 235 = .ok (.iconst 1, 1) := by decide +kernel
theorem dL_law_236 : decode cL_law 236 = .ok (.iadd, 1) := by decide +kernel
theorem dL_law_237 : decode cL_law 237 = .ok (.iaload, 1) := by decide +kernel
theorem dL_law_238 : decode cL_law 238 = .ok (.aload_n 0, 1) := by decide +kernel
theorem dL_law_239 : decode cL_law 239 = .ok (.iload_n 3, 1) := by decide +kernel
theorem dL_law_240 : decode cL_law 240 = .ok (.iconst 2, 1) := by decide +kernel
theorem dL_law_241 : decode cL_law 241 = .ok (.iadd, 1) := by decide +kernel
theorem dL_law_242 : decode cL_law 242 = .ok (.iaload, 1) := by decide +kernel
theorem dL_law_243 : decode cL_law 243 = .ok (.aload_n 0, 1) := by decide +kernel
theorem dL_law_244 : decode cL_law 244 = .ok (.iload_n 3, 1) := by decide +kernel
theorem dL_law_245 : decode cL_law 245 = .ok (.iconst 3, 1) := by decide +kernel
theorem dL_law_246 : decode cL_law 246 = .ok (.iadd, 1) := by decide +kernel
theorem dL_law_247 : decode cL_law 247 = .ok (.iaload, 1) := by decide +kernel
theorem dL_law_248 : decode cL_law 248 = .ok (.aload_n 0, 1) := by decide +kernel
theorem dL_law_249 : decode cL_law 249 = .ok (.iload_n 3, 1) := by decide +kernel
theorem dL_law_250 : decode cL_law 250 = .ok (.iconst 4, 1) := by decide +kernel
theorem dL_law_251 : decode cL_law 251 = .ok (.iadd, 1) := by decide +kernel
theorem dL_law_252 : decode cL_law 252 = .ok (.iaload, 1) := by decide +kernel
theorem dL_law_253 : decode cL_law 253 = .ok (.invokevirtual 32, 3) := by decide +kernel
theorem dL_law_256 : decode cL_law 256 = .ok (.aload_n 2, 1) := by decide +kernel
theorem dL_law_257 : decode cL_law 257 = .ok (.aload_n 0, 1) := by decide +kernel
theorem dL_law_258 : decode cL_law 258 = .ok (.iload_n 3, 1) := by decide +kernel
theorem dL_law_259 : decode cL_law 259 = .ok (.iconst 1, 1) := by decide +kernel
theorem dL_law_260 : decode cL_law 260 = .ok (.iadd, 1) := by decide +kernel
theorem dL_law_261 : decode cL_law 261 = .ok (.iaload, 1) := by decide +kernel
theorem dL_law_262 : decode cL_law 262 = .ok (.aload_n 0, 1) := by decide +kernel
theorem dL_law_263 : decode cL_law 263 = .ok (.iload_n 3, 1) := by decide +kernel
theorem dL_law_264 : decode cL_law 264 = .ok (.iconst 2, 1) := by decide +kernel
theorem dL_law_265 : decode cL_law 265 = .ok (.iadd, 1) := by decide +kernel
theorem dL_law_266 : decode cL_law 266 = .ok (.iaload, 1) := by decide +kernel
theorem dL_law_267 : decode cL_law 267 = .ok (.aload_n 0, 1) := by decide +kernel
theorem dL_law_268 : decode cL_law 268 = .ok (.iload_n 3, 1) := by decide +kernel
theorem dL_law_269 : decode cL_law 269 = .ok (.iconst 3, 1) := by decide +kernel
theorem dL_law_270 : decode cL_law 270 = .ok (.iadd, 1) := by decide +kernel
theorem dL_law_271 : decode cL_law 271 = .ok (.iaload, 1) := by decide +kernel
theorem dL_law_272 : decode cL_law 272 = .ok (.aload_n 0, 1) := by decide +kernel
theorem dL_law_273 : decode cL_law 273 = .ok (.iload_n 3, 1) := by decide +kernel
theorem dL_law_274 : decode cL_law 274 = .ok (.iconst 4, 1) := by decide +kernel
theorem dL_law_275 : decode cL_law 275 = .ok (.iadd, 1) := by decide +kernel
theorem dL_law_276 : decode cL_law 276 = .ok (.iaload, 1) := by decide +kernel
theorem dL_law_277 : decode cL_law 277 = .ok (.invokevirtual 35, 3) := by decide +kernel
theorem dL_law_280 : decode cL_law 280 = .ok (.if_icmp .eq 159, 3) := by decide +kernel
theorem dL_law_283 : decode cL_law 283 = .ok (.iconst 0, 1) := by decide +kernel
theorem dL_law_284 : decode cL_law 284 = .ok (.ireturn, 1) := by decide +kernel
theorem dL_law_285 : decode cL_law 285 = .ok (.aload_n 1, 1) := by decide +kernel
theorem dL_law_286 : decode cL_law 286 = .ok (.aload_n 0, 1) := by decide +kernel
theorem dL_law_287 : decode cL_law 287 = .ok (.iload_n 3, 1) := by decide +kernel
theorem dL_law_288 : decode cL_law 288 = .ok (.iconst 1, 1) := by decide +kernel
theorem dL_law_289 : decode cL_law 289 = .ok (.iadd, 1) := by decide +kernel
theorem dL_law_290 : decode cL_law 290 = .ok (.iaload, 1) := by decide +kernel
theorem dL_law_291 : decode cL_law 291 = .ok (.aload_n 0, 1) := by decide +kernel
theorem dL_law_292 : decode cL_law 292 = .ok (.iload_n 3, 1) := by decide +kernel
theorem dL_law_293 : decode cL_law 293 = .ok (.iconst 2, 1) := by decide +kernel
theorem dL_law_294 : decode cL_law 294 = .ok (.iadd, 1) := by decide +kernel
theorem dL_law_295 : decode cL_law 295 = .ok (.iaload, 1) := by decide +kernel
theorem dL_law_296 : decode cL_law 296 = .ok (.invokevirtual 36, 3) := by decide +kernel
theorem dL_law_299 : decode cL_law 299 = .ok (.aload_n 2, 1) := by decide +kernel
theorem dL_law_300 : decode cL_law 300 = .ok (.aload_n 0, 1) := by decide +kernel
theorem dL_law_301 : decode cL_law 301 = .ok (.iload_n 3, 1) := by decide +kernel
theorem dL_law_302 : decode cL_law 302 = .ok (.iconst 1, 1) := by decide +kernel
theorem dL_law_303 : decode cL_law 303 = .ok (.iadd, 1) := by decide +kernel
theorem dL_law_304 : decode cL_law 304 = .ok (.iaload, 1) := by decide +kernel
theorem dL_law_305 : decode cL_law 305 = .ok (.aload_n 0, 1) := by decide +kernel
theorem dL_law_306 : decode cL_law 306 = .ok (.iload_n 3, 1) := by decide +kernel
theorem dL_law_307 : decode cL_law 307 = .ok (.iconst 2, 1) := by decide +kernel
theorem dL_law_308 : decode cL_law 308 = .ok (.iadd, 1) := by decide +kernel
theorem dL_law_309 : decode cL_law 309 = .ok (.iaload, 1) := by decide +kernel
theorem dL_law_310 : decode cL_law 310 = .ok (.invokevirtual 39, 3) := by decide +kernel
theorem dL_law_313 : decode cL_law 313 = .ok (.if_icmp .eq 126, 3) := by decide +kernel
theorem dL_law_316 : decode cL_law 316 = .ok (.iconst 0, 1) := by decide +kernel
theorem dL_law_317 : decode cL_law 317 = .ok (.ireturn, 1) := by decide +kernel
theorem dL_law_318 : decode cL_law 318 = .ok (.aload_n 1, 1) := by decide +kernel
theorem dL_law_319 : decode cL_law 319 = .ok (.invokevirtual 40, 3) := by decide +kernel
theorem dL_law_322 : decode cL_law 322 = .ok (.aload_n 2, 1) := by decide +kernel
theorem dL_law_323 : decode cL_law 323 = .ok (.invokevirtual 44, 3) := by decide +kernel
theorem dL_law_326 : decode cL_law 326 = .ok (.if_icmp .eq 113, 3) := by decide +kernel
theorem dL_law_329 : decode cL_law 329 = .ok (.iconst 0, 1) := by decide +kernel
theorem dL_law_330 : decode cL_law 330 = .ok (.ireturn, 1) := by decide +kernel
theorem dL_law_331 : decode cL_law 331 = .ok (.aload_n 1, 1) := by decide +kernel
theorem dL_law_332 : decode cL_law 332 = .ok (.aload_n 0, 1) := by decide +kernel
theorem dL_law_333 : decode cL_law 333 = .ok (.iload_n 3, 1) := by decide +kernel
theorem dL_law_334 : decode cL_law 334 = .ok (.iconst 1, 1) := by decide +kernel
theorem dL_law_335 : decode cL_law 335 = .ok (.iadd, 1) := by decide +kernel
theorem dL_law_336 : decode cL_law 336 = .ok (.iaload, 1) := by decide +kernel
theorem dL_law_337 : decode cL_law 337 = .ok (.invokevirtual 45, 3) := by decide +kernel
theorem dL_law_340 : decode cL_law 340 = .ok (.aload_n 2, 1) := by decide +kernel
theorem dL_law_341 : decode cL_law 341 = .ok (.aload_n 0, 1) := by decide +kernel
theorem dL_law_342 : decode cL_law 342 = .ok (.iload_n 3, 1) := by decide +kernel
theorem dL_law_343 : decode cL_law 343 = .ok (.iconst 1, 1) := by decide +kernel
theorem dL_law_344 : decode cL_law 344 = .ok (.iadd, 1) := by decide +kernel
theorem dL_law_345 : decode cL_law 345 = .ok (.iaload, 1) := by decide +kernel
theorem dL_law_346 : decode cL_law 346 = .ok (.invokevirtual 48, 3) := by decide +kernel
theorem dL_law_349 : decode cL_law 349 = .ok (.if_icmp .eq 90, 3) := by decide +kernel
theorem dL_law_352 : decode cL_law 352 = .ok (.iconst 0, 1) := by decide +kernel
theorem dL_law_353 : decode cL_law 353 = .ok (.ireturn, 1) := by decide +kernel
theorem dL_law_354 : decode cL_law 354 = .ok (.aload_n 1, 1) := by decide +kernel
theorem dL_law_355 : decode cL_law 355 = .ok (.invokevirtual 49, 3) := by decide +kernel
theorem dL_law_358 : decode cL_law 358 = .ok (.aload_n 2, 1) := by decide +kernel
theorem dL_law_359 : decode cL_law 359 = .ok (.invokevirtual 52, 3) := by decide +kernel
theorem dL_law_362 : decode cL_law 362 = .ok (.if_icmp .eq 77, 3) := by decide +kernel
theorem dL_law_365 : decode cL_law 365 = .ok (.iconst 0, 1) := by decide +kernel
theorem dL_law_366 : decode cL_law 366 = .ok (.ireturn, 1) := by decide +kernel
theorem dL_law_367 : decode cL_law 367 = .ok (.aload_n 1, 1) := by decide +kernel
theorem dL_law_368 : decode cL_law 368 = .ok (.aload_n 0, 1) := by decide +kernel
theorem dL_law_369 : decode cL_law 369 = .ok (.iload_n 3, 1) := by decide +kernel
theorem dL_law_370 : decode cL_law 370 = .ok (.iconst 1, 1) := by decide +kernel
theorem dL_law_371 : decode cL_law 371 = .ok (.iadd, 1) := by decide +kernel
theorem dL_law_372 : decode cL_law 372 = .ok (.iaload, 1) := by decide +kernel
theorem dL_law_373 : decode cL_law 373 = .ok (.invokevirtual 53, 3) := by decide +kernel
theorem dL_law_376 : decode cL_law 376 = .ok (.aload_n 2, 1) := by decide +kernel
theorem dL_law_377 : decode cL_law 377 = .ok (.aload_n 0, 1) := by decide +kernel
theorem dL_law_378 : decode cL_law 378 = .ok (.iload_n 3, 1) := by decide +kernel
theorem dL_law_379 : decode cL_law 379 = .ok (.iconst 1, 1) := by decide +kernel
theorem dL_law_380 : decode cL_law 380 = .ok (.iadd, 1) := by decide +kernel
theorem dL_law_381 : decode cL_law 381 = .ok (.iaload, 1) := by decide +kernel
theorem dL_law_382 : decode cL_law 382 = .ok (.invokevirtual 56, 3) := by decide +kernel
theorem dL_law_385 : decode cL_law 385 = .ok (.if_icmp .eq 54, 3) := by decide +kernel
theorem dL_law_388 : decode cL_law 388 = .ok (.iconst 0, 1) := by decide +kernel
theorem dL_law_389 : decode cL_law 389 = .ok (.ireturn, 1) := by decide +kernel
theorem dL_law_390 : decode cL_law 390 = .ok (.aload_n 1, 1) := by decide +kernel
theorem dL_law_391 : decode cL_law 391 = .ok (.aload_n 0, 1) := by decide +kernel
theorem dL_law_392 : decode cL_law 392 = .ok (.iload_n 3, 1) := by decide +kernel
theorem dL_law_393 : decode cL_law 393 = .ok (.iconst 1, 1) := by decide +kernel
theorem dL_law_394 : decode cL_law 394 = .ok (.iadd, 1) := by decide +kernel
theorem dL_law_395 : decode cL_law 395 = .ok (.iaload, 1) := by decide +kernel
theorem dL_law_396 : decode cL_law 396 = .ok (.invokevirtual 57, 3) := by decide +kernel
theorem dL_law_399 : decode cL_law 399 = .ok (.aload_n 2, 1) := by decide +kernel
theorem dL_law_400 : decode cL_law 400 = .ok (.aload_n 0, 1) := by decide +kernel
theorem dL_law_401 : decode cL_law 401 = .ok (.iload_n 3, 1) := by decide +kernel
theorem dL_law_402 : decode cL_law 402 = .ok (.iconst 1, 1) := by decide +kernel
theorem dL_law_403 : decode cL_law 403 = .ok (.iadd, 1) := by decide +kernel
theorem dL_law_404 : decode cL_law 404 = .ok (.iaload, 1) := by decide +kernel
theorem dL_law_405 : decode cL_law 405 = .ok (.invokevirtual 60, 3) := by decide +kernel
theorem dL_law_408 : decode cL_law 408 = .ok (.if_icmp .eq 31, 3) := by decide +kernel
theorem dL_law_411 : decode cL_law 411 = .ok (.iconst 0, 1) := by decide +kernel
theorem dL_law_412 : decode cL_law 412 = .ok (.ireturn, 1) := by decide +kernel
theorem dL_law_413 : decode cL_law 413 = .ok (.aload_n 1, 1) := by decide +kernel
theorem dL_law_414 : decode cL_law 414 = .ok (.invokevirtual 61, 3) := by decide +kernel
theorem dL_law_417 : decode cL_law 417 = .ok (.aload_n 2, 1) := by decide +kernel
theorem dL_law_418 : decode cL_law 418 = .ok (.invokevirtual 64, 3) := by decide +kernel
theorem dL_law_421 : decode cL_law 421 = .ok (.if_icmp .eq 18, 3) := by decide +kernel
theorem dL_law_424 : decode cL_law 424 = .ok (.iconst 0, 1) := by decide +kernel
theorem dL_law_425 : decode cL_law 425 = .ok (.ireturn, 1) := by decide +kernel
theorem dL_law_426 : decode cL_law 426 = .ok (.aload_n 1, 1) := by decide +kernel
theorem dL_law_427 : decode cL_law 427 = .ok (.invokevirtual 65, 3) := by decide +kernel
theorem dL_law_430 : decode cL_law 430 = .ok (.aload_n 2, 1) := by decide +kernel
theorem dL_law_431 : decode cL_law 431 = .ok (.invokevirtual 68, 3) := by decide +kernel
theorem dL_law_434 : decode cL_law 434 = .ok (.if_icmp .eq 5, 3) := by decide +kernel
theorem dL_law_437 : decode cL_law 437 = .ok (.iconst 0, 1) := by decide +kernel
theorem dL_law_438 : decode cL_law 438 = .ok (.ireturn, 1) := by decide +kernel
theorem dL_law_439 : decode cL_law 439 = .ok (.iinc 3 5, 3) := by decide +kernel
theorem dL_law_442 : decode cL_law 442 = .ok (.goto (-424), 3) := by decide +kernel
theorem dL_law_445 : decode cL_law 445 = .ok (.iconst 1, 1) := by decide +kernel
theorem dL_law_446 : decode cL_law 446 = .ok (.ireturn, 1) := by decide +kernel
end
section
/-! J: the machine at a frame, over a world predicate, with its locals by their numbers -/
abbrev jG : Type := Program × Launch × Env × Room × State × MethodId × Array Value × List Frame × Method × Code × (State → Prop) × Nat × Nat
def lvs : Nat → List (Option Value) → List (Nat × Value)
  | _, [] => []
  | i, none :: t => lvs (i + 1) t
  | i, some v :: t => (i, v) :: lvs (i + 1) t
def lcat (L : List (Option Value)) : Bool := L.all (fun o => match o with
  | none => true
  | some v => v.category == 1)
theorem lvs_mem : ∀ (L : List (Option Value)) (k i : Nat) (v : Value), L[i]? = some (some v) → (k + i, v) ∈ lvs k L
  | [], k, i, v, h => by simp at h
  | none :: t, k, 0, v, h => by simp at h
  | none :: t, k, i + 1, v, h => by
    have h1 := lvs_mem t (k + 1) i v (by simpa using h)
    rw [show k + 1 + i = k + (i + 1) by omega] at h1
    exact h1
  | some w :: t, k, 0, v, h => by
    have e : w = v := by simpa using h
    subst e
    exact List.mem_cons_self
  | some w :: t, k, i + 1, v, h => by
    have h1 := lvs_mem t (k + 1) i v (by simpa using h)
    rw [show k + 1 + i = k + (i + 1) by omega] at h1
    exact List.mem_cons_of_mem _ h1
theorem lvs_of : ∀ (L : List (Option Value)) (k : Nat) (q : Nat × Value), q ∈ lvs k L → ∃ i, q.1 = k + i ∧ L[i]? = some (some q.2)
  | [], k, q, h => by simp [lvs] at h
  | none :: t, k, q, h => by
    obtain ⟨i, e1, e2⟩ := lvs_of t (k + 1) q h
    exact ⟨i + 1, by omega, by simpa using e2⟩
  | some w :: t, k, q, h => by
    rcases List.mem_cons.mp h with e | h
    · subst e
      exact ⟨0, rfl, rfl⟩
    · obtain ⟨i, e1, e2⟩ := lvs_of t (k + 1) q h
      exact ⟨i + 1, by omega, by simpa using e2⟩
theorem lvs_set {ls : Array Slot} {L : List (Option Value)} {i : Nat} {v : Value} (hc : lcat L = true) (h : lv_has ls L.length ((i, v) :: (lvs 0 L).filter (fun q => !(q.1 == i) && !(q.1 + 1 == i && q.2.category == 2)))) : lv_has ls (L.set i (some v)).length (lvs 0 (L.set i (some v))) := by
  refine ⟨by simpa using h.1, h.2.1, fun q hq => ?_⟩
  obtain ⟨j, e1, e2⟩ := lvs_of _ 0 q hq
  have e1 : q.1 = j := by omega
  by_cases hj : j = i
  · subst hj
    rw [List.getElem?_set_self'] at e2
    cases hx : L[j]? with
    | none => rw [hx] at e2; simp at e2
    | some w =>
      rw [hx] at e2
      have e3 : v = q.2 := by simpa using e2
      have := h.2.2 (j, v) List.mem_cons_self
      rw [e1, ← e3]
      exact this
  · rw [List.getElem?_set_ne (fun e => hj e.symm)] at e2
    have h1 := lvs_mem L 0 j q.2 e2
    rw [show 0 + j = q.1 by omega] at h1
    have h1 : q ∈ lvs 0 L := h1
    refine h.2.2 q (List.mem_cons_of_mem _ (List.mem_filter.mpr ⟨h1, ?_⟩))
    have hq1 : q.2.category = 1 := by
      have := List.all_eq_true.mp hc (some q.2) (List.mem_of_getElem? e2)
      simpa using this
    simp [hq1, e1, hj]
def J (g : jG) (P : Heap → List Loc → Prop) (pc : Nat) (L : List (Option Value)) (st : List Value) : Prop :=
  match g with
  | (p, l, e, R, s, m, args, below, meth, c, Q, cells, slots) => ∀ (H : Heap) (locs : List Loc) (ls : Array Slot), P H locs → lv_has ls L.length (lvs 0 L) → W p l e R s m args below meth c H locs cells slots Q (F0 m pc ls st)
/-- the machine's step, the code, how many locals -/
def jC (g : jG) (cc : ByteArray) (nL : Nat) : Prop :=
  match g with
  | (p, l, e, R, s, m, args, below, meth, c, Q, cells, slots) => p.tables.exec = Jvm.exec ∧ c.code = cc ∧ c.maxLocals = nL
section JR
variable {g : jG} {P : Heap → List Loc → Prop} {cc : ByteArray} {nL pc : Nat} {L L' : List (Option Value)} {st : List Value}
theorem j_iconst (C : jC g cc nL) {n : Int} {v : Int32} (hd : decode cc pc = .ok (.iconst n, 1)) (hv : Int32.ofInt n = v) (kk : J g P (pc + 1) L (.int v :: st)) : J g P pc L st := by
  obtain ⟨p, l, e, R, s, m, args, below, meth, c, Q, cells, slots⟩ := g
  intro H locs ls hP hl
  exact lv_iconst C.1 C.2.1 hd hv (kk H locs ls hP hl)
theorem j_bipush (C : jC g cc nL) {n : Int} {v : Int32} (hd : decode cc pc = .ok (.bipush n, 2)) (hv : (Int8.ofInt n).toInt32 = v) (kk : J g P (pc + 2) L (.int v :: st)) : J g P pc L st := by
  obtain ⟨p, l, e, R, s, m, args, below, meth, c, Q, cells, slots⟩ := g
  intro H locs ls hP hl
  exact lv_bipush C.1 C.2.1 hd hv (kk H locs ls hP hl)
theorem j_sipush (C : jC g cc nL) {n : Int} {v : Int32} (hd : decode cc pc = .ok (.sipush n, 3)) (hv : (Int16.ofInt n).toInt32 = v) (kk : J g P (pc + 3) L (.int v :: st)) : J g P pc L st := by
  obtain ⟨p, l, e, R, s, m, args, below, meth, c, Q, cells, slots⟩ := g
  intro H locs ls hP hl
  exact lv_sipush C.1 C.2.1 hd hv (kk H locs ls hP hl)
theorem j_iload_n (C : jC g cc nL) {k : Fin 4} {x : Int32} (hd : decode cc pc = .ok (.iload_n k, 1)) (hx : L[(k : Nat)]? = some (some (.int x))) (kk : J g P (pc + 1) L (.int x :: st)) : J g P pc L st := by
  obtain ⟨p, l, e, R, s, m, args, below, meth, c, Q, cells, slots⟩ := g
  intro H locs ls hP hl
  exact lv_iload_n C.1 C.2.1 hd rfl (hl.2.2 (_, _) (by simpa using lvs_mem L 0 _ _ hx)) (kk H locs ls hP hl)
theorem j_iload (C : jC g cc nL) {i : Nat} {x : Int32} (hd : decode cc pc = .ok (.iload i, 2)) (hx : L[i]? = some (some (.int x))) (kk : J g P (pc + 2) L (.int x :: st)) : J g P pc L st := by
  obtain ⟨p, l, e, R, s, m, args, below, meth, c, Q, cells, slots⟩ := g
  intro H locs ls hP hl
  exact lv_iload C.1 C.2.1 hd (hl.2.2 (_, _) (by simpa using lvs_mem L 0 _ _ hx)) (kk H locs ls hP hl)
theorem j_istore_n (C : jC g cc nL) {k : Fin 4} {x : Int32} (hd : decode cc pc = .ok (.istore_n k, 1)) (hi : (k : Nat) < L.length) (hc : lcat L = true) (hL : L.set (k : Nat) (some (.int x)) = L') (kk : J g P (pc + 1) L' st) : J g P pc L (.int x :: st) := by
  obtain ⟨p, l, e, R, s, m, args, below, meth, c, Q, cells, slots⟩ := g
  intro H locs ls hP hl
  subst hL
  exact lv_istore_n C.1 C.2.1 hd rfl hl hi rfl (fun ls1 hl1 => kk H locs ls1 hP (lvs_set hc hl1))
theorem j_istore (C : jC g cc nL) {i : Nat} {x : Int32} (hd : decode cc pc = .ok (.istore i, 2)) (hi : i < L.length) (hc : lcat L = true) (hL : L.set i (some (.int x)) = L') (kk : J g P (pc + 2) L' st) : J g P pc L (.int x :: st) := by
  obtain ⟨p, l, e, R, s, m, args, below, meth, c, Q, cells, slots⟩ := g
  intro H locs ls hP hl
  subst hL
  exact lv_istore C.1 C.2.1 hd hl hi rfl (fun ls1 hl1 => kk H locs ls1 hP (lvs_set hc hl1))
theorem j_aload_n (C : jC g cc nL) {k : Fin 4} {x : Nat} (hd : decode cc pc = .ok (.aload_n k, 1)) (hx : L[(k : Nat)]? = some (some (.ref x))) (kk : J g P (pc + 1) L (.ref x :: st)) : J g P pc L st := by
  obtain ⟨p, l, e, R, s, m, args, below, meth, c, Q, cells, slots⟩ := g
  intro H locs ls hP hl
  exact lv_aload_n C.1 C.2.1 hd rfl (hl.2.2 (_, _) (by simpa using lvs_mem L 0 _ _ hx)) (kk H locs ls hP hl)
theorem j_aload (C : jC g cc nL) {i : Nat} {x : Nat} (hd : decode cc pc = .ok (.aload i, 2)) (hx : L[i]? = some (some (.ref x))) (kk : J g P (pc + 2) L (.ref x :: st)) : J g P pc L st := by
  obtain ⟨p, l, e, R, s, m, args, below, meth, c, Q, cells, slots⟩ := g
  intro H locs ls hP hl
  exact lv_aload C.1 C.2.1 hd (hl.2.2 (_, _) (by simpa using lvs_mem L 0 _ _ hx)) (kk H locs ls hP hl)
theorem j_astore_n (C : jC g cc nL) {k : Fin 4} {x : Nat} (hd : decode cc pc = .ok (.astore_n k, 1)) (hi : (k : Nat) < L.length) (hc : lcat L = true) (hL : L.set (k : Nat) (some (.ref x)) = L') (kk : J g P (pc + 1) L' st) : J g P pc L (.ref x :: st) := by
  obtain ⟨p, l, e, R, s, m, args, below, meth, c, Q, cells, slots⟩ := g
  intro H locs ls hP hl
  subst hL
  exact lv_astore_n C.1 C.2.1 hd rfl hl hi rfl (fun ls1 hl1 => kk H locs ls1 hP (lvs_set hc hl1))
theorem j_astore (C : jC g cc nL) {i : Nat} {x : Nat} (hd : decode cc pc = .ok (.astore i, 2)) (hi : i < L.length) (hc : lcat L = true) (hL : L.set i (some (.ref x)) = L') (kk : J g P (pc + 2) L' st) : J g P pc L (.ref x :: st) := by
  obtain ⟨p, l, e, R, s, m, args, below, meth, c, Q, cells, slots⟩ := g
  intro H locs ls hP hl
  subst hL
  exact lv_astore C.1 C.2.1 hd hl hi rfl (fun ls1 hl1 => kk H locs ls1 hP (lvs_set hc hl1))
theorem j_iinc (C : jC g cc nL) {i : Nat} {n : Int} {x v : Int32} (hd : decode cc pc = .ok (.iinc i n, 3)) (hx : L[i]? = some (some (.int x))) (hv : x + Int32.ofInt n = v) (hi : i < L.length) (hc : lcat L = true) (hL : L.set i (some (.int v)) = L') (kk : J g P (pc + 3) L' st) : J g P pc L st := by
  obtain ⟨p, l, e, R, s, m, args, below, meth, c, Q, cells, slots⟩ := g
  intro H locs ls hP hl
  subst hL
  have hm := lvs_mem L 0 i _ hx
  rw [Nat.zero_add] at hm
  obtain ⟨k, hk⟩ := List.getElem?_of_mem hm
  exact lv_iinc C.1 C.2.1 hd hl hk hv hi rfl (fun ls1 hl1 => kk H locs ls1 hP (lvs_set hc hl1))
theorem j_iadd (C : jC g cc nL) {x y v : Int32} (hd : decode cc pc = .ok (.iadd, 1)) (hv : x + y = v) (kk : J g P (pc + 1) L (.int v :: st)) : J g P pc L (.int y :: .int x :: st) := by
  obtain ⟨p, l, e, R, s, m, args, below, meth, c, Q, cells, slots⟩ := g
  intro H locs ls hP hl
  subst hv
  exact lv_iadd C.1 C.2.1 hd (kk H locs ls hP hl)
theorem j_isub (C : jC g cc nL) {x y v : Int32} (hd : decode cc pc = .ok (.isub, 1)) (hv : x - y = v) (kk : J g P (pc + 1) L (.int v :: st)) : J g P pc L (.int y :: .int x :: st) := by
  obtain ⟨p, l, e, R, s, m, args, below, meth, c, Q, cells, slots⟩ := g
  intro H locs ls hP hl
  subst hv
  exact lv_isub C.1 C.2.1 hd (kk H locs ls hP hl)
theorem j_imul (C : jC g cc nL) {x y v : Int32} (hd : decode cc pc = .ok (.imul, 1)) (hv : x * y = v) (kk : J g P (pc + 1) L (.int v :: st)) : J g P pc L (.int y :: .int x :: st) := by
  obtain ⟨p, l, e, R, s, m, args, below, meth, c, Q, cells, slots⟩ := g
  intro H locs ls hP hl
  subst hv
  exact lv_imul C.1 C.2.1 hd (kk H locs ls hP hl)
theorem j_iand (C : jC g cc nL) {x y v : Int32} (hd : decode cc pc = .ok (.iand, 1)) (hv : x &&& y = v) (kk : J g P (pc + 1) L (.int v :: st)) : J g P pc L (.int y :: .int x :: st) := by
  obtain ⟨p, l, e, R, s, m, args, below, meth, c, Q, cells, slots⟩ := g
  intro H locs ls hP hl
  subst hv
  exact lv_iand C.1 C.2.1 hd (kk H locs ls hP hl)
theorem j_ior (C : jC g cc nL) {x y v : Int32} (hd : decode cc pc = .ok (.ior, 1)) (hv : x ||| y = v) (kk : J g P (pc + 1) L (.int v :: st)) : J g P pc L (.int y :: .int x :: st) := by
  obtain ⟨p, l, e, R, s, m, args, below, meth, c, Q, cells, slots⟩ := g
  intro H locs ls hP hl
  subst hv
  exact lv_ior C.1 C.2.1 hd (kk H locs ls hP hl)
theorem j_ishl (C : jC g cc nL) {x y v : Int32} (hd : decode cc pc = .ok (.ishl, 1)) (hv : x <<< (y &&& 31) = v) (kk : J g P (pc + 1) L (.int v :: st)) : J g P pc L (.int y :: .int x :: st) := by
  obtain ⟨p, l, e, R, s, m, args, below, meth, c, Q, cells, slots⟩ := g
  intro H locs ls hP hl
  subst hv
  exact lv_ishl C.1 C.2.1 hd (kk H locs ls hP hl)
theorem j_ishr (C : jC g cc nL) {x y v : Int32} (hd : decode cc pc = .ok (.ishr, 1)) (hv : x >>> (y &&& 31) = v) (kk : J g P (pc + 1) L (.int v :: st)) : J g P pc L (.int y :: .int x :: st) := by
  obtain ⟨p, l, e, R, s, m, args, below, meth, c, Q, cells, slots⟩ := g
  intro H locs ls hP hl
  subst hv
  exact lv_ishr C.1 C.2.1 hd (kk H locs ls hP hl)
theorem j_dup (C : jC g cc nL) {v : Value} (hd : decode cc pc = .ok (.dup, 1)) (hv : v.category = 1) (kk : J g P (pc + 1) L (v :: v :: st)) : J g P pc L (v :: st) := by
  obtain ⟨p, l, e, R, s, m, args, below, meth, c, Q, cells, slots⟩ := g
  intro H locs ls hP hl
  exact lv_dup C.1 C.2.1 hd hv (kk H locs ls hP hl)
theorem j_dup2 (C : jC g cc nL) {v u : Value} (hd : decode cc pc = .ok (.dup2, 1)) (hv : v.category = 1) (hu : u.category = 1) (kk : J g P (pc + 1) L (v :: u :: v :: u :: st)) : J g P pc L (v :: u :: st) := by
  obtain ⟨p, l, e, R, s, m, args, below, meth, c, Q, cells, slots⟩ := g
  intro H locs ls hP hl
  exact lv_dup2_11 C.1 C.2.1 hd hv hu (kk H locs ls hP hl)
theorem j_pop (C : jC g cc nL) {v : Value} (hd : decode cc pc = .ok (.pop, 1)) (hv : v.category = 1) (kk : J g P (pc + 1) L st) : J g P pc L (v :: st) := by
  obtain ⟨p, l, e, R, s, m, args, below, meth, c, Q, cells, slots⟩ := g
  intro H locs ls hP hl
  exact lv_pop C.1 C.2.1 hd hv (kk H locs ls hP hl)
theorem j_if_eq (C : jC g cc nL) {x : Int32} {off : Int} (tgt : Nat) (hd : decode cc pc = .ok (.ifCond .eq off, 3)) (ht : (pc : Int) + off = (tgt : Int)) (kt : x = 0 → J g P tgt L st) (kf : ¬ x = 0 → J g P (pc + 3) L st) : J g P pc L (.int x :: st) := by
  obtain ⟨p, l, e, R, s, m, args, below, meth, c, Q, cells, slots⟩ := g
  intro H locs ls hP hl
  exact lv_if_eq C.1 C.2.1 hd ht (fun hh => kt hh H locs ls hP hl) (fun hh => kf hh H locs ls hP hl)
theorem j_icmp_eq (C : jC g cc nL) {x y : Int32} {off : Int} (tgt : Nat) (hd : decode cc pc = .ok (.if_icmp .eq off, 3)) (ht : (pc : Int) + off = (tgt : Int)) (kt : x = y → J g P tgt L st) (kf : ¬ x = y → J g P (pc + 3) L st) : J g P pc L (.int y :: .int x :: st) := by
  obtain ⟨p, l, e, R, s, m, args, below, meth, c, Q, cells, slots⟩ := g
  intro H locs ls hP hl
  exact lv_icmp_eq C.1 C.2.1 hd ht (fun hh => kt hh H locs ls hP hl) (fun hh => kf hh H locs ls hP hl)
theorem j_if_ne (C : jC g cc nL) {x : Int32} {off : Int} (tgt : Nat) (hd : decode cc pc = .ok (.ifCond .ne off, 3)) (ht : (pc : Int) + off = (tgt : Int)) (kt : ¬ x = 0 → J g P tgt L st) (kf : x = 0 → J g P (pc + 3) L st) : J g P pc L (.int x :: st) := by
  obtain ⟨p, l, e, R, s, m, args, below, meth, c, Q, cells, slots⟩ := g
  intro H locs ls hP hl
  exact lv_if_ne C.1 C.2.1 hd ht (fun hh => kt hh H locs ls hP hl) (fun hh => kf hh H locs ls hP hl)
theorem j_icmp_ne (C : jC g cc nL) {x y : Int32} {off : Int} (tgt : Nat) (hd : decode cc pc = .ok (.if_icmp .ne off, 3)) (ht : (pc : Int) + off = (tgt : Int)) (kt : ¬ x = y → J g P tgt L st) (kf : x = y → J g P (pc + 3) L st) : J g P pc L (.int y :: .int x :: st) := by
  obtain ⟨p, l, e, R, s, m, args, below, meth, c, Q, cells, slots⟩ := g
  intro H locs ls hP hl
  exact lv_icmp_ne C.1 C.2.1 hd ht (fun hh => kt hh H locs ls hP hl) (fun hh => kf hh H locs ls hP hl)
theorem j_if_lt (C : jC g cc nL) {x : Int32} {off : Int} (tgt : Nat) (hd : decode cc pc = .ok (.ifCond .lt off, 3)) (ht : (pc : Int) + off = (tgt : Int)) (kt : x < 0 → J g P tgt L st) (kf : ¬ x < 0 → J g P (pc + 3) L st) : J g P pc L (.int x :: st) := by
  obtain ⟨p, l, e, R, s, m, args, below, meth, c, Q, cells, slots⟩ := g
  intro H locs ls hP hl
  exact lv_if_lt C.1 C.2.1 hd ht (fun hh => kt hh H locs ls hP hl) (fun hh => kf hh H locs ls hP hl)
theorem j_icmp_lt (C : jC g cc nL) {x y : Int32} {off : Int} (tgt : Nat) (hd : decode cc pc = .ok (.if_icmp .lt off, 3)) (ht : (pc : Int) + off = (tgt : Int)) (kt : x < y → J g P tgt L st) (kf : ¬ x < y → J g P (pc + 3) L st) : J g P pc L (.int y :: .int x :: st) := by
  obtain ⟨p, l, e, R, s, m, args, below, meth, c, Q, cells, slots⟩ := g
  intro H locs ls hP hl
  exact lv_icmp_lt C.1 C.2.1 hd ht (fun hh => kt hh H locs ls hP hl) (fun hh => kf hh H locs ls hP hl)
theorem j_if_ge (C : jC g cc nL) {x : Int32} {off : Int} (tgt : Nat) (hd : decode cc pc = .ok (.ifCond .ge off, 3)) (ht : (pc : Int) + off = (tgt : Int)) (kt : 0 ≤ x → J g P tgt L st) (kf : ¬ 0 ≤ x → J g P (pc + 3) L st) : J g P pc L (.int x :: st) := by
  obtain ⟨p, l, e, R, s, m, args, below, meth, c, Q, cells, slots⟩ := g
  intro H locs ls hP hl
  exact lv_if_ge C.1 C.2.1 hd ht (fun hh => kt hh H locs ls hP hl) (fun hh => kf hh H locs ls hP hl)
theorem j_icmp_ge (C : jC g cc nL) {x y : Int32} {off : Int} (tgt : Nat) (hd : decode cc pc = .ok (.if_icmp .ge off, 3)) (ht : (pc : Int) + off = (tgt : Int)) (kt : y ≤ x → J g P tgt L st) (kf : ¬ y ≤ x → J g P (pc + 3) L st) : J g P pc L (.int y :: .int x :: st) := by
  obtain ⟨p, l, e, R, s, m, args, below, meth, c, Q, cells, slots⟩ := g
  intro H locs ls hP hl
  exact lv_icmp_ge C.1 C.2.1 hd ht (fun hh => kt hh H locs ls hP hl) (fun hh => kf hh H locs ls hP hl)
theorem j_if_gt (C : jC g cc nL) {x : Int32} {off : Int} (tgt : Nat) (hd : decode cc pc = .ok (.ifCond .gt off, 3)) (ht : (pc : Int) + off = (tgt : Int)) (kt : 0 < x → J g P tgt L st) (kf : ¬ 0 < x → J g P (pc + 3) L st) : J g P pc L (.int x :: st) := by
  obtain ⟨p, l, e, R, s, m, args, below, meth, c, Q, cells, slots⟩ := g
  intro H locs ls hP hl
  exact lv_if_gt C.1 C.2.1 hd ht (fun hh => kt hh H locs ls hP hl) (fun hh => kf hh H locs ls hP hl)
theorem j_icmp_gt (C : jC g cc nL) {x y : Int32} {off : Int} (tgt : Nat) (hd : decode cc pc = .ok (.if_icmp .gt off, 3)) (ht : (pc : Int) + off = (tgt : Int)) (kt : y < x → J g P tgt L st) (kf : ¬ y < x → J g P (pc + 3) L st) : J g P pc L (.int y :: .int x :: st) := by
  obtain ⟨p, l, e, R, s, m, args, below, meth, c, Q, cells, slots⟩ := g
  intro H locs ls hP hl
  exact lv_icmp_gt C.1 C.2.1 hd ht (fun hh => kt hh H locs ls hP hl) (fun hh => kf hh H locs ls hP hl)
theorem j_if_le (C : jC g cc nL) {x : Int32} {off : Int} (tgt : Nat) (hd : decode cc pc = .ok (.ifCond .le off, 3)) (ht : (pc : Int) + off = (tgt : Int)) (kt : x ≤ 0 → J g P tgt L st) (kf : ¬ x ≤ 0 → J g P (pc + 3) L st) : J g P pc L (.int x :: st) := by
  obtain ⟨p, l, e, R, s, m, args, below, meth, c, Q, cells, slots⟩ := g
  intro H locs ls hP hl
  exact lv_if_le C.1 C.2.1 hd ht (fun hh => kt hh H locs ls hP hl) (fun hh => kf hh H locs ls hP hl)
theorem j_icmp_le (C : jC g cc nL) {x y : Int32} {off : Int} (tgt : Nat) (hd : decode cc pc = .ok (.if_icmp .le off, 3)) (ht : (pc : Int) + off = (tgt : Int)) (kt : x ≤ y → J g P tgt L st) (kf : ¬ x ≤ y → J g P (pc + 3) L st) : J g P pc L (.int y :: .int x :: st) := by
  obtain ⟨p, l, e, R, s, m, args, below, meth, c, Q, cells, slots⟩ := g
  intro H locs ls hP hl
  exact lv_icmp_le C.1 C.2.1 hd ht (fun hh => kt hh H locs ls hP hl) (fun hh => kf hh H locs ls hP hl)
theorem j_goto (C : jC g cc nL) {off : Int} (tgt : Nat) (hd : decode cc pc = .ok (.goto off, 3)) (ht : (pc : Int) + off = (tgt : Int)) (kk : J g P tgt L st) : J g P pc L st := by
  obtain ⟨p, l, e, R, s, m, args, below, meth, c, Q, cells, slots⟩ := g
  intro H locs ls hP hl
  exact lv_goto C.1 C.2.1 hd ht (kk H locs ls hP hl)
theorem j_tableIn (C : jC g cc nL) {dflt lo hi : Int} {offs : Array Int} {len : Nat} {x : Int32} {off : Int} (tgt : Nat) (hd : decode cc pc = .ok (.tableswitch dflt lo hi offs, len)) (h1 : ¬ x.toInt < lo) (h2 : ¬ hi < x.toInt) (ho : offs[(x.toInt - lo).toNat]? = some off) (ht : (pc : Int) + off = (tgt : Int)) (kk : J g P tgt L st) : J g P pc L (.int x :: st) := by
  obtain ⟨p, l, e, R, s, m, args, below, meth, c, Q, cells, slots⟩ := g
  intro H locs ls hP hl
  exact lv_tableIn C.1 C.2.1 hd h1 h2 ho ht (kk H locs ls hP hl)
theorem j_tableOut (C : jC g cc nL) {dflt lo hi : Int} {offs : Array Int} {len : Nat} {x : Int32} (tgt : Nat) (hd : decode cc pc = .ok (.tableswitch dflt lo hi offs, len)) (hx : x.toInt < lo ∨ hi < x.toInt) (ht : (pc : Int) + dflt = (tgt : Int)) (kk : J g P tgt L st) : J g P pc L (.int x :: st) := by
  obtain ⟨p, l, e, R, s, m, args, below, meth, c, Q, cells, slots⟩ := g
  intro H locs ls hP hl
  exact lv_tableOut C.1 C.2.1 hd hx ht (kk H locs ls hP hl)
/-- another name for the number on top -/
theorem j_top {x y : Int32} (hv : x = y) (kk : J g P pc L (.int y :: st)) : J g P pc L (.int x :: st) := hv ▸ kk
theorem j_weak {P1 : Heap → List Loc → Prop} (hw : ∀ H locs, P H locs → P1 H locs) (kk : J g P1 pc L st) : J g P pc L st := by
  obtain ⟨p, l, e, R, s, m, args, below, meth, c, Q, cells, slots⟩ := g
  intro H locs ls hP hl
  exact kk H locs ls (hw H locs hP) hl
def lmask : List (Option Value) → List Bool → List (Option Value)
  | o :: t, b :: u => (if b then o else none) :: lmask t u
  | _, _ => []
theorem lmask_mem : ∀ (L : List (Option Value)) (bs : List Bool) (k : Nat) (q : Nat × Value), q ∈ lvs k (lmask L bs) → q ∈ lvs k L
  | [], bs, k, q, h => by simp [lmask, lvs] at h
  | o :: t, [], k, q, h => by simp [lmask, lvs] at h
  | none :: t, b :: u, k, q, h => by
    have h : q ∈ lvs (k + 1) (lmask t u) := by
      cases b <;> exact h
    exact lmask_mem t u (k + 1) q h
  | some v :: t, false :: u, k, q, h => List.mem_cons_of_mem _ (lmask_mem t u (k + 1) q h)
  | some v :: t, true :: u, k, q, h => by
    rcases List.mem_cons.mp h with e | h
    · subst e
      exact List.mem_cons_self
    · exact List.mem_cons_of_mem _ (lmask_mem t u (k + 1) q h)
/-- some locals are forgotten -/
theorem j_forget (bs : List Bool) (hm : lmask L bs = L') (hlen : L'.length = L.length) (kk : J g P pc L' st) : J g P pc L st := by
  obtain ⟨p, l, e, R, s, m, args, below, meth, c, Q, cells, slots⟩ := g
  intro H locs ls hP hl
  refine kk H locs ls hP ⟨by rw [hlen]; exact hl.1, hl.2.1, fun q hq => hl.2.2 q ?_⟩
  rw [← hm] at hq
  exact lmask_mem L bs 0 q hq
end JR
end
section
abbrev vwCl : List vw_C := [(RX0, TX0, 27), (RX1, TX1, 13)]
abbrev jF : Type := Nat → Int32
abbrev jA : Type := Nat → Nat → Int32
/-- a world: tables, the int arrays' class, the object, its arrays, what may change, the heap at the start -/
abbrev xT : Type := va_G × ClassId × Nat × (Nat → Nat) × (Nat → Prop) × Heap
def xh (w : xT) : Nat := w.2.2.1
def xq (w : xT) (k : Nat) : Nat := w.2.2.2.1 k
def rmN (fr : Nat) : Room := { frames := fr, cells := 0, slots := 0, locals := 30 * fr }
def xfs (q : Nat → Nat) (F : jF) : List Value := [.ref (q 0), .ref (q 1), .ref (q 2), .ref (q 3), .ref (q 4), .ref (q 5), .ref (q 6), .int (F 7), .int (F 8), .ref (q 9), .ref (q 10), .ref (q 11), .ref (q 12), .int (F 13), .ref (q 14), .ref (q 15), .int (F 16), .ref (q 17), .ref (q 18), .ref (q 19), .ref (q 20), .int (F 21), .int (F 22), .int (F 23), .ref (q 24), .int (F 25), .ref (q 26)]
def xW (h : Nat) (q : Nat → Nat) (d : ClassId) (F : jF) (A : jA) : va_W := [(h, .inr (0, xfs q F)), (q 0, .inl (d, 10, .inl (A 0))), (q 1, .inl (d, 30, .inl (A 1))), (q 2, .inl (d, 30, .inl (A 2))), (q 3, .inl (d, 30, .inl (A 3))), (q 4, .inl (d, 10, .inl (A 4))), (q 5, .inl (d, 10, .inl (A 5))), (q 6, .inl (d, 10, .inl (A 6))), (q 9, .inl (d, 10, .inl (A 9))), (q 10, .inl (d, 10, .inl (A 10))), (q 11, .inl (d, 11, .inl (A 11))), (q 12, .inl (d, 11, .inl (A 12))), (q 14, .inl (d, 20, .inl (A 14))), (q 15, .inl (d, 20, .inl (A 15))), (q 17, .inl (d, 64, .inl (A 17))), (q 18, .inl (d, 64, .inl (A 18))), (q 19, .inl (d, 20, .inl (A 19))), (q 20, .inl (d, 4, .inl (A 20))), (q 24, .inl (d, 10, .inl (A 24))), (q 26, .inl (d, 16, .inl (A 26)))]
def xP (w : xT) (F : jF) (A : jA) (H : Heap) (locs : List Loc) : Prop :=
  match w with
  | (D, d, h, q, A0, H0) => va_P D vwCl (xW h q d F A) H ∧ va_D A0 (xW h q d F A) ∧ va_S A0 H0 H locs
def xX (g : jG) (w : xT) (fr : Nat) : Prop :=
  match g, w with
  | (p, l, e, R, s, m, args, below, meth, c, Q, cells, slots), (D, d, h, q, A0, H0) => s.vm.findClass RX0 = some m.cls ∧ (∀ w ∈ lw_all, w.before args s = true) ∧ va_K D vwCl [(d, .int)] s ∧ H0 = s.heap ∧ (∀ q, s.heap.size ≤ q → A0 q) ∧ fr ≤ R.frames ∧ 30 * fr ≤ R.locals ∧ cells ≤ R.cells ∧ slots ≤ R.slots
section xRO
variable {g : jG} {w : xT} {cc : ByteArray} {nL fr pc : Nat} {L : List (Option Value)} {st : List Value} {F : jF} {A : jA}
set_option maxRecDepth 20000 in
theorem x_get_size (C : jC g cc nL) (X : xX g w fr) (hd : decode cc pc = .ok (.getfield 7, 3)) (kk : J g (xP w F A) (pc + 3) L (.ref (xq w 0) :: st)) : J g (xP w F A) pc L (.ref (xh w) :: st) := by
  obtain ⟨p, l, e, R, s, m, args, below, meth, c, Q, cells, slots⟩ := g
  obtain ⟨D, d, h, q, A0, H0⟩ := w
  intro H locs ls hP hl
  exact va_get (D := D) (ci := 0) (v := .ref (q 0)) (C := RX0) (T := TX0) (N := 27) C.1 C.2.1 X.2.1 in_X0 X.1 X.2.2.1 hP.1 0 rfl rfl 0 (by decide) (X.2.1 _ q28) (fun _ h9 => h9) rfl hd (kk H locs ls hP hl)
set_option maxRecDepth 20000 in
theorem x_get_op (C : jC g cc nL) (X : xX g w fr) (hd : decode cc pc = .ok (.getfield 13, 3)) (kk : J g (xP w F A) (pc + 3) L (.ref (xq w 1) :: st)) : J g (xP w F A) pc L (.ref (xh w) :: st) := by
  obtain ⟨p, l, e, R, s, m, args, below, meth, c, Q, cells, slots⟩ := g
  obtain ⟨D, d, h, q, A0, H0⟩ := w
  intro H locs ls hP hl
  exact va_get (D := D) (ci := 0) (v := .ref (q 1)) (C := RX0) (T := TX0) (N := 27) C.1 C.2.1 X.2.1 in_X0 X.1 X.2.2.1 hP.1 0 rfl rfl 1 (by decide) (X.2.1 _ q29) (fun _ h9 => h9) rfl hd (kk H locs ls hP hl)
set_option maxRecDepth 20000 in
theorem x_get_target (C : jC g cc nL) (X : xX g w fr) (hd : decode cc pc = .ok (.getfield 16, 3)) (kk : J g (xP w F A) (pc + 3) L (.ref (xq w 2) :: st)) : J g (xP w F A) pc L (.ref (xh w) :: st) := by
  obtain ⟨p, l, e, R, s, m, args, below, meth, c, Q, cells, slots⟩ := g
  obtain ⟨D, d, h, q, A0, H0⟩ := w
  intro H locs ls hP hl
  exact va_get (D := D) (ci := 0) (v := .ref (q 2)) (C := RX0) (T := TX0) (N := 27) C.1 C.2.1 X.2.1 in_X0 X.1 X.2.2.1 hP.1 0 rfl rfl 2 (by decide) (X.2.1 _ q30) (fun _ h9 => h9) rfl hd (kk H locs ls hP hl)
set_option maxRecDepth 20000 in
theorem x_get_operand (C : jC g cc nL) (X : xX g w fr) (hd : decode cc pc = .ok (.getfield 19, 3)) (kk : J g (xP w F A) (pc + 3) L (.ref (xq w 3) :: st)) : J g (xP w F A) pc L (.ref (xh w) :: st) := by
  obtain ⟨p, l, e, R, s, m, args, below, meth, c, Q, cells, slots⟩ := g
  obtain ⟨D, d, h, q, A0, H0⟩ := w
  intro H locs ls hP hl
  exact va_get (D := D) (ci := 0) (v := .ref (q 3)) (C := RX0) (T := TX0) (N := 27) C.1 C.2.1 X.2.1 in_X0 X.1 X.2.2.1 hP.1 0 rfl rfl 3 (by decide) (X.2.1 _ q31) (fun _ h9 => h9) rfl hd (kk H locs ls hP hl)
set_option maxRecDepth 20000 in
theorem x_get_test (C : jC g cc nL) (X : xX g w fr) (hd : decode cc pc = .ok (.getfield 22, 3)) (kk : J g (xP w F A) (pc + 3) L (.ref (xq w 4) :: st)) : J g (xP w F A) pc L (.ref (xh w) :: st) := by
  obtain ⟨p, l, e, R, s, m, args, below, meth, c, Q, cells, slots⟩ := g
  obtain ⟨D, d, h, q, A0, H0⟩ := w
  intro H locs ls hP hl
  exact va_get (D := D) (ci := 0) (v := .ref (q 4)) (C := RX0) (T := TX0) (N := 27) C.1 C.2.1 X.2.1 in_X0 X.1 X.2.2.1 hP.1 0 rfl rfl 4 (by decide) (X.2.1 _ q32) (fun _ h9 => h9) rfl hd (kk H locs ls hP hl)
set_option maxRecDepth 20000 in
theorem x_get_first (C : jC g cc nL) (X : xX g w fr) (hd : decode cc pc = .ok (.getfield 25, 3)) (kk : J g (xP w F A) (pc + 3) L (.ref (xq w 5) :: st)) : J g (xP w F A) pc L (.ref (xh w) :: st) := by
  obtain ⟨p, l, e, R, s, m, args, below, meth, c, Q, cells, slots⟩ := g
  obtain ⟨D, d, h, q, A0, H0⟩ := w
  intro H locs ls hP hl
  exact va_get (D := D) (ci := 0) (v := .ref (q 5)) (C := RX0) (T := TX0) (N := 27) C.1 C.2.1 X.2.1 in_X0 X.1 X.2.2.1 hP.1 0 rfl rfl 5 (by decide) (X.2.1 _ q33) (fun _ h9 => h9) rfl hd (kk H locs ls hP hl)
set_option maxRecDepth 20000 in
theorem x_get_second (C : jC g cc nL) (X : xX g w fr) (hd : decode cc pc = .ok (.getfield 28, 3)) (kk : J g (xP w F A) (pc + 3) L (.ref (xq w 6) :: st)) : J g (xP w F A) pc L (.ref (xh w) :: st) := by
  obtain ⟨p, l, e, R, s, m, args, below, meth, c, Q, cells, slots⟩ := g
  obtain ⟨D, d, h, q, A0, H0⟩ := w
  intro H locs ls hP hl
  exact va_get (D := D) (ci := 0) (v := .ref (q 6)) (C := RX0) (T := TX0) (N := 27) C.1 C.2.1 X.2.1 in_X0 X.1 X.2.2.1 hP.1 0 rfl rfl 6 (by decide) (X.2.1 _ q34) (fun _ h9 => h9) rfl hd (kk H locs ls hP hl)
set_option maxRecDepth 20000 in
theorem x_get_ready (C : jC g cc nL) (X : xX g w fr) (hd : decode cc pc = .ok (.getfield 78, 3)) (kk : J g (xP w F A) (pc + 3) L (.int (F 7) :: st)) : J g (xP w F A) pc L (.ref (xh w) :: st) := by
  obtain ⟨p, l, e, R, s, m, args, below, meth, c, Q, cells, slots⟩ := g
  obtain ⟨D, d, h, q, A0, H0⟩ := w
  intro H locs ls hP hl
  exact va_get (D := D) (ci := 0) (v := .int (F 7)) (C := RX0) (T := TX0) (N := 27) C.1 C.2.1 X.2.1 in_X0 X.1 X.2.2.1 hP.1 0 rfl rfl 7 (by decide) (X.2.1 _ q35) (fun _ h9 => h9) rfl hd (kk H locs ls hP hl)
set_option maxRecDepth 20000 in
theorem x_put_ready {v : Int32} {F1 : jF} (C : jC g cc nL) (X : xX g w fr) (hd : decode cc pc = .ok (.putfield 78, 3)) (hz : v = 0 ∨ v = 1) (hF : upd F 7 v = F1) (kk : J g (xP w F1 A) (pc + 3) L st) : J g (xP w F A) pc L (.int v :: .ref (xh w) :: st) := by
  obtain ⟨p, l, e, R, s, m, args, below, meth, c, Q, cells, slots⟩ := g
  obtain ⟨D, d, h, q, A0, H0⟩ := w
  intro H locs ls hP hl
  subst hF
  exact va_put (D := D) (ci := 0) (v := .int v) (ty := .boolean) (C := RX0) (T := TX0) (N := 27) C.1 C.2.1 X.2.1 in_X0 tyX0 tyX0_ok nmX0 X.1 X.2.2.1 hP.1 hP.2.1 hP.2.2 0 rfl rfl 7 (by decide) (X.2.1 _ q35) (fun _ h9 => h9) rfl (by decide +kernel) (by rcases hz with rfl | rfl <;> rfl) (by rcases hz with rfl | rfl <;> rfl) (Nat.le_of_ble_eq_true rfl) hd (fun H1 locs1 hP1 hD1 hS1 => kk H1 locs1 ls ⟨hP1, hD1, hS1⟩ hl)
set_option maxRecDepth 20000 in
theorem x_get_count (C : jC g cc nL) (X : xX g w fr) (hd : decode cc pc = .ok (.getfield 86, 3)) (kk : J g (xP w F A) (pc + 3) L (.int (F 8) :: st)) : J g (xP w F A) pc L (.ref (xh w) :: st) := by
  obtain ⟨p, l, e, R, s, m, args, below, meth, c, Q, cells, slots⟩ := g
  obtain ⟨D, d, h, q, A0, H0⟩ := w
  intro H locs ls hP hl
  exact va_get (D := D) (ci := 0) (v := .int (F 8)) (C := RX0) (T := TX0) (N := 27) C.1 C.2.1 X.2.1 in_X0 X.1 X.2.2.1 hP.1 0 rfl rfl 8 (by decide) (X.2.1 _ q36) (fun _ h9 => h9) rfl hd (kk H locs ls hP hl)
set_option maxRecDepth 20000 in
theorem x_put_count {v : Int32} {F1 : jF} (C : jC g cc nL) (X : xX g w fr) (hd : decode cc pc = .ok (.putfield 86, 3)) (hF : upd F 8 v = F1) (kk : J g (xP w F1 A) (pc + 3) L st) : J g (xP w F A) pc L (.int v :: .ref (xh w) :: st) := by
  obtain ⟨p, l, e, R, s, m, args, below, meth, c, Q, cells, slots⟩ := g
  obtain ⟨D, d, h, q, A0, H0⟩ := w
  intro H locs ls hP hl
  subst hF
  exact va_put (D := D) (ci := 0) (v := .int v) (ty := .int) (C := RX0) (T := TX0) (N := 27) C.1 C.2.1 X.2.1 in_X0 tyX0 tyX0_ok nmX0 X.1 X.2.2.1 hP.1 hP.2.1 hP.2.2 0 rfl rfl 8 (by decide) (X.2.1 _ q36) (fun _ h9 => h9) rfl (by decide +kernel) rfl rfl (Nat.le_of_ble_eq_true rfl) hd (fun H1 locs1 hP1 hD1 hS1 => kk H1 locs1 ls ⟨hP1, hD1, hS1⟩ hl)
set_option maxRecDepth 20000 in
theorem x_get_order (C : jC g cc nL) (X : xX g w fr) (hd : decode cc pc = .ok (.getfield 31, 3)) (kk : J g (xP w F A) (pc + 3) L (.ref (xq w 9) :: st)) : J g (xP w F A) pc L (.ref (xh w) :: st) := by
  obtain ⟨p, l, e, R, s, m, args, below, meth, c, Q, cells, slots⟩ := g
  obtain ⟨D, d, h, q, A0, H0⟩ := w
  intro H locs ls hP hl
  exact va_get (D := D) (ci := 0) (v := .ref (q 9)) (C := RX0) (T := TX0) (N := 27) C.1 C.2.1 X.2.1 in_X0 X.1 X.2.2.1 hP.1 0 rfl rfl 9 (by decide) (X.2.1 _ q37) (fun _ h9 => h9) rfl hd (kk H locs ls hP hl)
set_option maxRecDepth 20000 in
theorem x_get_place (C : jC g cc nL) (X : xX g w fr) (hd : decode cc pc = .ok (.getfield 34, 3)) (kk : J g (xP w F A) (pc + 3) L (.ref (xq w 10) :: st)) : J g (xP w F A) pc L (.ref (xh w) :: st) := by
  obtain ⟨p, l, e, R, s, m, args, below, meth, c, Q, cells, slots⟩ := g
  obtain ⟨D, d, h, q, A0, H0⟩ := w
  intro H locs ls hP hl
  exact va_get (D := D) (ci := 0) (v := .ref (q 10)) (C := RX0) (T := TX0) (N := 27) C.1 C.2.1 X.2.1 in_X0 X.1 X.2.2.1 hP.1 0 rfl rfl 10 (by decide) (X.2.1 _ q38) (fun _ h9 => h9) rfl hd (kk H locs ls hP hl)
set_option maxRecDepth 20000 in
theorem x_get_walkStack (C : jC g cc nL) (X : xX g w fr) (hd : decode cc pc = .ok (.getfield 37, 3)) (kk : J g (xP w F A) (pc + 3) L (.ref (xq w 11) :: st)) : J g (xP w F A) pc L (.ref (xh w) :: st) := by
  obtain ⟨p, l, e, R, s, m, args, below, meth, c, Q, cells, slots⟩ := g
  obtain ⟨D, d, h, q, A0, H0⟩ := w
  intro H locs ls hP hl
  exact va_get (D := D) (ci := 0) (v := .ref (q 11)) (C := RX0) (T := TX0) (N := 27) C.1 C.2.1 X.2.1 in_X0 X.1 X.2.2.1 hP.1 0 rfl rfl 11 (by decide) (X.2.1 _ q39) (fun _ h9 => h9) rfl hd (kk H locs ls hP hl)
set_option maxRecDepth 20000 in
theorem x_get_walkSide (C : jC g cc nL) (X : xX g w fr) (hd : decode cc pc = .ok (.getfield 40, 3)) (kk : J g (xP w F A) (pc + 3) L (.ref (xq w 12) :: st)) : J g (xP w F A) pc L (.ref (xh w) :: st) := by
  obtain ⟨p, l, e, R, s, m, args, below, meth, c, Q, cells, slots⟩ := g
  obtain ⟨D, d, h, q, A0, H0⟩ := w
  intro H locs ls hP hl
  exact va_get (D := D) (ci := 0) (v := .ref (q 12)) (C := RX0) (T := TX0) (N := 27) C.1 C.2.1 X.2.1 in_X0 X.1 X.2.2.1 hP.1 0 rfl rfl 12 (by decide) (X.2.1 _ q40) (fun _ h9 => h9) rfl hd (kk H locs ls hP hl)
set_option maxRecDepth 20000 in
theorem x_get_loops (C : jC g cc nL) (X : xX g w fr) (hd : decode cc pc = .ok (.getfield 89, 3)) (kk : J g (xP w F A) (pc + 3) L (.int (F 13) :: st)) : J g (xP w F A) pc L (.ref (xh w) :: st) := by
  obtain ⟨p, l, e, R, s, m, args, below, meth, c, Q, cells, slots⟩ := g
  obtain ⟨D, d, h, q, A0, H0⟩ := w
  intro H locs ls hP hl
  exact va_get (D := D) (ci := 0) (v := .int (F 13)) (C := RX0) (T := TX0) (N := 27) C.1 C.2.1 X.2.1 in_X0 X.1 X.2.2.1 hP.1 0 rfl rfl 13 (by decide) (X.2.1 _ q41) (fun _ h9 => h9) rfl hd (kk H locs ls hP hl)
set_option maxRecDepth 20000 in
theorem x_put_loops {v : Int32} {F1 : jF} (C : jC g cc nL) (X : xX g w fr) (hd : decode cc pc = .ok (.putfield 89, 3)) (hF : upd F 13 v = F1) (kk : J g (xP w F1 A) (pc + 3) L st) : J g (xP w F A) pc L (.int v :: .ref (xh w) :: st) := by
  obtain ⟨p, l, e, R, s, m, args, below, meth, c, Q, cells, slots⟩ := g
  obtain ⟨D, d, h, q, A0, H0⟩ := w
  intro H locs ls hP hl
  subst hF
  exact va_put (D := D) (ci := 0) (v := .int v) (ty := .int) (C := RX0) (T := TX0) (N := 27) C.1 C.2.1 X.2.1 in_X0 tyX0 tyX0_ok nmX0 X.1 X.2.2.1 hP.1 hP.2.1 hP.2.2 0 rfl rfl 13 (by decide) (X.2.1 _ q41) (fun _ h9 => h9) rfl (by decide +kernel) rfl rfl (Nat.le_of_ble_eq_true rfl) hd (fun H1 locs1 hP1 hD1 hS1 => kk H1 locs1 ls ⟨hP1, hD1, hS1⟩ hl)
set_option maxRecDepth 20000 in
theorem x_get_from (C : jC g cc nL) (X : xX g w fr) (hd : decode cc pc = .ok (.getfield 43, 3)) (kk : J g (xP w F A) (pc + 3) L (.ref (xq w 14) :: st)) : J g (xP w F A) pc L (.ref (xh w) :: st) := by
  obtain ⟨p, l, e, R, s, m, args, below, meth, c, Q, cells, slots⟩ := g
  obtain ⟨D, d, h, q, A0, H0⟩ := w
  intro H locs ls hP hl
  exact va_get (D := D) (ci := 0) (v := .ref (q 14)) (C := RX0) (T := TX0) (N := 27) C.1 C.2.1 X.2.1 in_X0 X.1 X.2.2.1 hP.1 0 rfl rfl 14 (by decide) (X.2.1 _ q42) (fun _ h9 => h9) rfl hd (kk H locs ls hP hl)
set_option maxRecDepth 20000 in
theorem x_get_to (C : jC g cc nL) (X : xX g w fr) (hd : decode cc pc = .ok (.getfield 46, 3)) (kk : J g (xP w F A) (pc + 3) L (.ref (xq w 15) :: st)) : J g (xP w F A) pc L (.ref (xh w) :: st) := by
  obtain ⟨p, l, e, R, s, m, args, below, meth, c, Q, cells, slots⟩ := g
  obtain ⟨D, d, h, q, A0, H0⟩ := w
  intro H locs ls hP hl
  exact va_get (D := D) (ci := 0) (v := .ref (q 15)) (C := RX0) (T := TX0) (N := 27) C.1 C.2.1 X.2.1 in_X0 X.1 X.2.2.1 hP.1 0 rfl rfl 15 (by decide) (X.2.1 _ q43) (fun _ h9 => h9) rfl hd (kk H locs ls hP hl)
set_option maxRecDepth 20000 in
theorem x_get_length (C : jC g cc nL) (X : xX g w fr) (hd : decode cc pc = .ok (.getfield 96, 3)) (kk : J g (xP w F A) (pc + 3) L (.int (F 16) :: st)) : J g (xP w F A) pc L (.ref (xh w) :: st) := by
  obtain ⟨p, l, e, R, s, m, args, below, meth, c, Q, cells, slots⟩ := g
  obtain ⟨D, d, h, q, A0, H0⟩ := w
  intro H locs ls hP hl
  exact va_get (D := D) (ci := 0) (v := .int (F 16)) (C := RX0) (T := TX0) (N := 27) C.1 C.2.1 X.2.1 in_X0 X.1 X.2.2.1 hP.1 0 rfl rfl 16 (by decide) (X.2.1 _ q44) (fun _ h9 => h9) rfl hd (kk H locs ls hP hl)
set_option maxRecDepth 20000 in
theorem x_put_length {v : Int32} {F1 : jF} (C : jC g cc nL) (X : xX g w fr) (hd : decode cc pc = .ok (.putfield 96, 3)) (hF : upd F 16 v = F1) (kk : J g (xP w F1 A) (pc + 3) L st) : J g (xP w F A) pc L (.int v :: .ref (xh w) :: st) := by
  obtain ⟨p, l, e, R, s, m, args, below, meth, c, Q, cells, slots⟩ := g
  obtain ⟨D, d, h, q, A0, H0⟩ := w
  intro H locs ls hP hl
  subst hF
  exact va_put (D := D) (ci := 0) (v := .int v) (ty := .int) (C := RX0) (T := TX0) (N := 27) C.1 C.2.1 X.2.1 in_X0 tyX0 tyX0_ok nmX0 X.1 X.2.2.1 hP.1 hP.2.1 hP.2.2 0 rfl rfl 16 (by decide) (X.2.1 _ q44) (fun _ h9 => h9) rfl (by decide +kernel) rfl rfl (Nat.le_of_ble_eq_true rfl) hd (fun H1 locs1 hP1 hD1 hS1 => kk H1 locs1 ls ⟨hP1, hD1, hS1⟩ hl)
set_option maxRecDepth 20000 in
theorem x_get_word (C : jC g cc nL) (X : xX g w fr) (hd : decode cc pc = .ok (.getfield 49, 3)) (kk : J g (xP w F A) (pc + 3) L (.ref (xq w 17) :: st)) : J g (xP w F A) pc L (.ref (xh w) :: st) := by
  obtain ⟨p, l, e, R, s, m, args, below, meth, c, Q, cells, slots⟩ := g
  obtain ⟨D, d, h, q, A0, H0⟩ := w
  intro H locs ls hP hl
  exact va_get (D := D) (ci := 0) (v := .ref (q 17)) (C := RX0) (T := TX0) (N := 27) C.1 C.2.1 X.2.1 in_X0 X.1 X.2.2.1 hP.1 0 rfl rfl 17 (by decide) (X.2.1 _ q45) (fun _ h9 => h9) rfl hd (kk H locs ls hP hl)
set_option maxRecDepth 20000 in
theorem x_get_with (C : jC g cc nL) (X : xX g w fr) (hd : decode cc pc = .ok (.getfield 52, 3)) (kk : J g (xP w F A) (pc + 3) L (.ref (xq w 18) :: st)) : J g (xP w F A) pc L (.ref (xh w) :: st) := by
  obtain ⟨p, l, e, R, s, m, args, below, meth, c, Q, cells, slots⟩ := g
  obtain ⟨D, d, h, q, A0, H0⟩ := w
  intro H locs ls hP hl
  exact va_get (D := D) (ci := 0) (v := .ref (q 18)) (C := RX0) (T := TX0) (N := 27) C.1 C.2.1 X.2.1 in_X0 X.1 X.2.2.1 hP.1 0 rfl rfl 18 (by decide) (X.2.1 _ q46) (fun _ h9 => h9) rfl hd (kk H locs ls hP hl)
set_option maxRecDepth 20000 in
theorem x_get_loopStart (C : jC g cc nL) (X : xX g w fr) (hd : decode cc pc = .ok (.getfield 55, 3)) (kk : J g (xP w F A) (pc + 3) L (.ref (xq w 19) :: st)) : J g (xP w F A) pc L (.ref (xh w) :: st) := by
  obtain ⟨p, l, e, R, s, m, args, below, meth, c, Q, cells, slots⟩ := g
  obtain ⟨D, d, h, q, A0, H0⟩ := w
  intro H locs ls hP hl
  exact va_get (D := D) (ci := 0) (v := .ref (q 19)) (C := RX0) (T := TX0) (N := 27) C.1 C.2.1 X.2.1 in_X0 X.1 X.2.2.1 hP.1 0 rfl rfl 19 (by decide) (X.2.1 _ q47) (fun _ h9 => h9) rfl hd (kk H locs ls hP hl)
set_option maxRecDepth 20000 in
theorem x_get_var (C : jC g cc nL) (X : xX g w fr) (hd : decode cc pc = .ok (.getfield 58, 3)) (kk : J g (xP w F A) (pc + 3) L (.ref (xq w 20) :: st)) : J g (xP w F A) pc L (.ref (xh w) :: st) := by
  obtain ⟨p, l, e, R, s, m, args, below, meth, c, Q, cells, slots⟩ := g
  obtain ⟨D, d, h, q, A0, H0⟩ := w
  intro H locs ls hP hl
  exact va_get (D := D) (ci := 0) (v := .ref (q 20)) (C := RX0) (T := TX0) (N := 27) C.1 C.2.1 X.2.1 in_X0 X.1 X.2.2.1 hP.1 0 rfl rfl 20 (by decide) (X.2.1 _ q48) (fun _ h9 => h9) rfl hd (kk H locs ls hP hl)
set_option maxRecDepth 20000 in
theorem x_get_label (C : jC g cc nL) (X : xX g w fr) (hd : decode cc pc = .ok (.getfield 128, 3)) (kk : J g (xP w F A) (pc + 3) L (.int (F 21) :: st)) : J g (xP w F A) pc L (.ref (xh w) :: st) := by
  obtain ⟨p, l, e, R, s, m, args, below, meth, c, Q, cells, slots⟩ := g
  obtain ⟨D, d, h, q, A0, H0⟩ := w
  intro H locs ls hP hl
  exact va_get (D := D) (ci := 0) (v := .int (F 21)) (C := RX0) (T := TX0) (N := 27) C.1 C.2.1 X.2.1 in_X0 X.1 X.2.2.1 hP.1 0 rfl rfl 21 (by decide) (X.2.1 _ q49) (fun _ h9 => h9) rfl hd (kk H locs ls hP hl)
set_option maxRecDepth 20000 in
theorem x_put_label {v : Int32} {F1 : jF} (C : jC g cc nL) (X : xX g w fr) (hd : decode cc pc = .ok (.putfield 128, 3)) (hF : upd F 21 v = F1) (kk : J g (xP w F1 A) (pc + 3) L st) : J g (xP w F A) pc L (.int v :: .ref (xh w) :: st) := by
  obtain ⟨p, l, e, R, s, m, args, below, meth, c, Q, cells, slots⟩ := g
  obtain ⟨D, d, h, q, A0, H0⟩ := w
  intro H locs ls hP hl
  subst hF
  exact va_put (D := D) (ci := 0) (v := .int v) (ty := .int) (C := RX0) (T := TX0) (N := 27) C.1 C.2.1 X.2.1 in_X0 tyX0 tyX0_ok nmX0 X.1 X.2.2.1 hP.1 hP.2.1 hP.2.2 0 rfl rfl 21 (by decide) (X.2.1 _ q49) (fun _ h9 => h9) rfl (by decide +kernel) rfl rfl (Nat.le_of_ble_eq_true rfl) hd (fun H1 locs1 hP1 hD1 hS1 => kk H1 locs1 ls ⟨hP1, hD1, hS1⟩ hl)
set_option maxRecDepth 20000 in
theorem x_get_entered (C : jC g cc nL) (X : xX g w fr) (hd : decode cc pc = .ok (.getfield 121, 3)) (kk : J g (xP w F A) (pc + 3) L (.int (F 22) :: st)) : J g (xP w F A) pc L (.ref (xh w) :: st) := by
  obtain ⟨p, l, e, R, s, m, args, below, meth, c, Q, cells, slots⟩ := g
  obtain ⟨D, d, h, q, A0, H0⟩ := w
  intro H locs ls hP hl
  exact va_get (D := D) (ci := 0) (v := .int (F 22)) (C := RX0) (T := TX0) (N := 27) C.1 C.2.1 X.2.1 in_X0 X.1 X.2.2.1 hP.1 0 rfl rfl 22 (by decide) (X.2.1 _ q50) (fun _ h9 => h9) rfl hd (kk H locs ls hP hl)
set_option maxRecDepth 20000 in
theorem x_put_entered {v : Int32} {F1 : jF} (C : jC g cc nL) (X : xX g w fr) (hd : decode cc pc = .ok (.putfield 121, 3)) (hF : upd F 22 v = F1) (kk : J g (xP w F1 A) (pc + 3) L st) : J g (xP w F A) pc L (.int v :: .ref (xh w) :: st) := by
  obtain ⟨p, l, e, R, s, m, args, below, meth, c, Q, cells, slots⟩ := g
  obtain ⟨D, d, h, q, A0, H0⟩ := w
  intro H locs ls hP hl
  subst hF
  exact va_put (D := D) (ci := 0) (v := .int v) (ty := .int) (C := RX0) (T := TX0) (N := 27) C.1 C.2.1 X.2.1 in_X0 tyX0 tyX0_ok nmX0 X.1 X.2.2.1 hP.1 hP.2.1 hP.2.2 0 rfl rfl 22 (by decide) (X.2.1 _ q50) (fun _ h9 => h9) rfl (by decide +kernel) rfl rfl (Nat.le_of_ble_eq_true rfl) hd (fun H1 locs1 hP1 hD1 hS1 => kk H1 locs1 ls ⟨hP1, hD1, hS1⟩ hl)
set_option maxRecDepth 20000 in
theorem x_get_ended (C : jC g cc nL) (X : xX g w fr) (hd : decode cc pc = .ok (.getfield 67, 3)) (kk : J g (xP w F A) (pc + 3) L (.int (F 23) :: st)) : J g (xP w F A) pc L (.ref (xh w) :: st) := by
  obtain ⟨p, l, e, R, s, m, args, below, meth, c, Q, cells, slots⟩ := g
  obtain ⟨D, d, h, q, A0, H0⟩ := w
  intro H locs ls hP hl
  exact va_get (D := D) (ci := 0) (v := .int (F 23)) (C := RX0) (T := TX0) (N := 27) C.1 C.2.1 X.2.1 in_X0 X.1 X.2.2.1 hP.1 0 rfl rfl 23 (by decide) (X.2.1 _ q51) (fun _ h9 => h9) rfl hd (kk H locs ls hP hl)
set_option maxRecDepth 20000 in
theorem x_put_ended {v : Int32} {F1 : jF} (C : jC g cc nL) (X : xX g w fr) (hd : decode cc pc = .ok (.putfield 67, 3)) (hF : upd F 23 v = F1) (kk : J g (xP w F1 A) (pc + 3) L st) : J g (xP w F A) pc L (.int v :: .ref (xh w) :: st) := by
  obtain ⟨p, l, e, R, s, m, args, below, meth, c, Q, cells, slots⟩ := g
  obtain ⟨D, d, h, q, A0, H0⟩ := w
  intro H locs ls hP hl
  subst hF
  exact va_put (D := D) (ci := 0) (v := .int v) (ty := .int) (C := RX0) (T := TX0) (N := 27) C.1 C.2.1 X.2.1 in_X0 tyX0 tyX0_ok nmX0 X.1 X.2.2.1 hP.1 hP.2.1 hP.2.2 0 rfl rfl 23 (by decide) (X.2.1 _ q51) (fun _ h9 => h9) rfl (by decide +kernel) rfl rfl (Nat.le_of_ble_eq_true rfl) hd (fun H1 locs1 hP1 hD1 hS1 => kk H1 locs1 ls ⟨hP1, hD1, hS1⟩ hl)
set_option maxRecDepth 20000 in
theorem x_get_seen (C : jC g cc nL) (X : xX g w fr) (hd : decode cc pc = .ok (.getfield 61, 3)) (kk : J g (xP w F A) (pc + 3) L (.ref (xq w 24) :: st)) : J g (xP w F A) pc L (.ref (xh w) :: st) := by
  obtain ⟨p, l, e, R, s, m, args, below, meth, c, Q, cells, slots⟩ := g
  obtain ⟨D, d, h, q, A0, H0⟩ := w
  intro H locs ls hP hl
  exact va_get (D := D) (ci := 0) (v := .ref (q 24)) (C := RX0) (T := TX0) (N := 27) C.1 C.2.1 X.2.1 in_X0 X.1 X.2.2.1 hP.1 0 rfl rfl 24 (by decide) (X.2.1 _ q52) (fun _ h9 => h9) rfl hd (kk H locs ls hP hl)
set_option maxRecDepth 20000 in
theorem x_get_written (C : jC g cc nL) (X : xX g w fr) (hd : decode cc pc = .ok (.getfield 118, 3)) (kk : J g (xP w F A) (pc + 3) L (.int (F 25) :: st)) : J g (xP w F A) pc L (.ref (xh w) :: st) := by
  obtain ⟨p, l, e, R, s, m, args, below, meth, c, Q, cells, slots⟩ := g
  obtain ⟨D, d, h, q, A0, H0⟩ := w
  intro H locs ls hP hl
  exact va_get (D := D) (ci := 0) (v := .int (F 25)) (C := RX0) (T := TX0) (N := 27) C.1 C.2.1 X.2.1 in_X0 X.1 X.2.2.1 hP.1 0 rfl rfl 25 (by decide) (X.2.1 _ q53) (fun _ h9 => h9) rfl hd (kk H locs ls hP hl)
set_option maxRecDepth 20000 in
theorem x_put_written {v : Int32} {F1 : jF} (C : jC g cc nL) (X : xX g w fr) (hd : decode cc pc = .ok (.putfield 118, 3)) (hF : upd F 25 v = F1) (kk : J g (xP w F1 A) (pc + 3) L st) : J g (xP w F A) pc L (.int v :: .ref (xh w) :: st) := by
  obtain ⟨p, l, e, R, s, m, args, below, meth, c, Q, cells, slots⟩ := g
  obtain ⟨D, d, h, q, A0, H0⟩ := w
  intro H locs ls hP hl
  subst hF
  exact va_put (D := D) (ci := 0) (v := .int v) (ty := .int) (C := RX0) (T := TX0) (N := 27) C.1 C.2.1 X.2.1 in_X0 tyX0 tyX0_ok nmX0 X.1 X.2.2.1 hP.1 hP.2.1 hP.2.2 0 rfl rfl 25 (by decide) (X.2.1 _ q53) (fun _ h9 => h9) rfl (by decide +kernel) rfl rfl (Nat.le_of_ble_eq_true rfl) hd (fun H1 locs1 hP1 hD1 hS1 => kk H1 locs1 ls ⟨hP1, hD1, hS1⟩ hl)
set_option maxRecDepth 20000 in
theorem x_get_lastOut (C : jC g cc nL) (X : xX g w fr) (hd : decode cc pc = .ok (.getfield 64, 3)) (kk : J g (xP w F A) (pc + 3) L (.ref (xq w 26) :: st)) : J g (xP w F A) pc L (.ref (xh w) :: st) := by
  obtain ⟨p, l, e, R, s, m, args, below, meth, c, Q, cells, slots⟩ := g
  obtain ⟨D, d, h, q, A0, H0⟩ := w
  intro H locs ls hP hl
  exact va_get (D := D) (ci := 0) (v := .ref (q 26)) (C := RX0) (T := TX0) (N := 27) C.1 C.2.1 X.2.1 in_X0 X.1 X.2.2.1 hP.1 0 rfl rfl 26 (by decide) (X.2.1 _ q54) (fun _ h9 => h9) rfl hd (kk H locs ls hP hl)
theorem x_ald_size {i v : Int32} (j : Nat) (C : jC g cc nL) (X : xX g w fr) (hd : decode cc pc = .ok (.iaload, 1)) (hi : i = nI j) (hj : j < 10) (hv : A 0 j = v) (kk : J g (xP w F A) (pc + 1) L (.int v :: st)) : J g (xP w F A) pc L (.int i :: .ref (xq w 0) :: st) := by
  obtain ⟨p, l, e, R, s, m, args, below, meth, c, Q, cells, slots⟩ := g
  obtain ⟨D, d, h, q, A0, H0⟩ := w
  intro H locs ls hP hl
  subst hi
  subst hv
  refine va_iald C.1 C.2.1 X.2.2.1 hP.1 1 0 rfl rfl (vp_in_nI hj (by decide)) hd ?_
  rw [nI_clamp (by omega)]
  exact kk H locs ls hP hl
theorem x_ast_size {i v : Int32} {A1 : jA} (j : Nat) (C : jC g cc nL) (X : xX g w fr) (hd : decode cc pc = .ok (.iastore, 1)) (hi : i = nI j) (hj : j < 10) (hA : va_up A 0 (upd (A 0) j v) = A1) (kk : J g (xP w F A1) (pc + 1) L st) : J g (xP w F A) pc L (.int v :: .int i :: .ref (xq w 0) :: st) := by
  obtain ⟨p, l, e, R, s, m, args, below, meth, c, Q, cells, slots⟩ := g
  obtain ⟨D, d, h, q, A0, H0⟩ := w
  intro H locs ls hP hl
  subst hi
  subst hA
  refine va_iast C.1 C.2.1 X.2.2.1 hP.1 hP.2.1 hP.2.2 1 0 rfl rfl (vp_in_nI hj (by decide)) hd (fun H1 locs1 hP1 hD1 hS1 => ?_)
  rw [nI_clamp (by omega)] at hP1 hD1
  exact kk H1 locs1 ls ⟨hP1, hD1, hS1⟩ hl
theorem x_ald_op {i v : Int32} (j : Nat) (C : jC g cc nL) (X : xX g w fr) (hd : decode cc pc = .ok (.iaload, 1)) (hi : i = nI j) (hj : j < 30) (hv : A 1 j = v) (kk : J g (xP w F A) (pc + 1) L (.int v :: st)) : J g (xP w F A) pc L (.int i :: .ref (xq w 1) :: st) := by
  obtain ⟨p, l, e, R, s, m, args, below, meth, c, Q, cells, slots⟩ := g
  obtain ⟨D, d, h, q, A0, H0⟩ := w
  intro H locs ls hP hl
  subst hi
  subst hv
  refine va_iald C.1 C.2.1 X.2.2.1 hP.1 2 0 rfl rfl (vp_in_nI hj (by decide)) hd ?_
  rw [nI_clamp (by omega)]
  exact kk H locs ls hP hl
theorem x_ast_op {i v : Int32} {A1 : jA} (j : Nat) (C : jC g cc nL) (X : xX g w fr) (hd : decode cc pc = .ok (.iastore, 1)) (hi : i = nI j) (hj : j < 30) (hA : va_up A 1 (upd (A 1) j v) = A1) (kk : J g (xP w F A1) (pc + 1) L st) : J g (xP w F A) pc L (.int v :: .int i :: .ref (xq w 1) :: st) := by
  obtain ⟨p, l, e, R, s, m, args, below, meth, c, Q, cells, slots⟩ := g
  obtain ⟨D, d, h, q, A0, H0⟩ := w
  intro H locs ls hP hl
  subst hi
  subst hA
  refine va_iast C.1 C.2.1 X.2.2.1 hP.1 hP.2.1 hP.2.2 2 0 rfl rfl (vp_in_nI hj (by decide)) hd (fun H1 locs1 hP1 hD1 hS1 => ?_)
  rw [nI_clamp (by omega)] at hP1 hD1
  exact kk H1 locs1 ls ⟨hP1, hD1, hS1⟩ hl
theorem x_ald_target {i v : Int32} (j : Nat) (C : jC g cc nL) (X : xX g w fr) (hd : decode cc pc = .ok (.iaload, 1)) (hi : i = nI j) (hj : j < 30) (hv : A 2 j = v) (kk : J g (xP w F A) (pc + 1) L (.int v :: st)) : J g (xP w F A) pc L (.int i :: .ref (xq w 2) :: st) := by
  obtain ⟨p, l, e, R, s, m, args, below, meth, c, Q, cells, slots⟩ := g
  obtain ⟨D, d, h, q, A0, H0⟩ := w
  intro H locs ls hP hl
  subst hi
  subst hv
  refine va_iald C.1 C.2.1 X.2.2.1 hP.1 3 0 rfl rfl (vp_in_nI hj (by decide)) hd ?_
  rw [nI_clamp (by omega)]
  exact kk H locs ls hP hl
theorem x_ast_target {i v : Int32} {A1 : jA} (j : Nat) (C : jC g cc nL) (X : xX g w fr) (hd : decode cc pc = .ok (.iastore, 1)) (hi : i = nI j) (hj : j < 30) (hA : va_up A 2 (upd (A 2) j v) = A1) (kk : J g (xP w F A1) (pc + 1) L st) : J g (xP w F A) pc L (.int v :: .int i :: .ref (xq w 2) :: st) := by
  obtain ⟨p, l, e, R, s, m, args, below, meth, c, Q, cells, slots⟩ := g
  obtain ⟨D, d, h, q, A0, H0⟩ := w
  intro H locs ls hP hl
  subst hi
  subst hA
  refine va_iast C.1 C.2.1 X.2.2.1 hP.1 hP.2.1 hP.2.2 3 0 rfl rfl (vp_in_nI hj (by decide)) hd (fun H1 locs1 hP1 hD1 hS1 => ?_)
  rw [nI_clamp (by omega)] at hP1 hD1
  exact kk H1 locs1 ls ⟨hP1, hD1, hS1⟩ hl
theorem x_ald_operand {i v : Int32} (j : Nat) (C : jC g cc nL) (X : xX g w fr) (hd : decode cc pc = .ok (.iaload, 1)) (hi : i = nI j) (hj : j < 30) (hv : A 3 j = v) (kk : J g (xP w F A) (pc + 1) L (.int v :: st)) : J g (xP w F A) pc L (.int i :: .ref (xq w 3) :: st) := by
  obtain ⟨p, l, e, R, s, m, args, below, meth, c, Q, cells, slots⟩ := g
  obtain ⟨D, d, h, q, A0, H0⟩ := w
  intro H locs ls hP hl
  subst hi
  subst hv
  refine va_iald C.1 C.2.1 X.2.2.1 hP.1 4 0 rfl rfl (vp_in_nI hj (by decide)) hd ?_
  rw [nI_clamp (by omega)]
  exact kk H locs ls hP hl
theorem x_ast_operand {i v : Int32} {A1 : jA} (j : Nat) (C : jC g cc nL) (X : xX g w fr) (hd : decode cc pc = .ok (.iastore, 1)) (hi : i = nI j) (hj : j < 30) (hA : va_up A 3 (upd (A 3) j v) = A1) (kk : J g (xP w F A1) (pc + 1) L st) : J g (xP w F A) pc L (.int v :: .int i :: .ref (xq w 3) :: st) := by
  obtain ⟨p, l, e, R, s, m, args, below, meth, c, Q, cells, slots⟩ := g
  obtain ⟨D, d, h, q, A0, H0⟩ := w
  intro H locs ls hP hl
  subst hi
  subst hA
  refine va_iast C.1 C.2.1 X.2.2.1 hP.1 hP.2.1 hP.2.2 4 0 rfl rfl (vp_in_nI hj (by decide)) hd (fun H1 locs1 hP1 hD1 hS1 => ?_)
  rw [nI_clamp (by omega)] at hP1 hD1
  exact kk H1 locs1 ls ⟨hP1, hD1, hS1⟩ hl
theorem x_ald_test {i v : Int32} (j : Nat) (C : jC g cc nL) (X : xX g w fr) (hd : decode cc pc = .ok (.iaload, 1)) (hi : i = nI j) (hj : j < 10) (hv : A 4 j = v) (kk : J g (xP w F A) (pc + 1) L (.int v :: st)) : J g (xP w F A) pc L (.int i :: .ref (xq w 4) :: st) := by
  obtain ⟨p, l, e, R, s, m, args, below, meth, c, Q, cells, slots⟩ := g
  obtain ⟨D, d, h, q, A0, H0⟩ := w
  intro H locs ls hP hl
  subst hi
  subst hv
  refine va_iald C.1 C.2.1 X.2.2.1 hP.1 5 0 rfl rfl (vp_in_nI hj (by decide)) hd ?_
  rw [nI_clamp (by omega)]
  exact kk H locs ls hP hl
theorem x_ast_test {i v : Int32} {A1 : jA} (j : Nat) (C : jC g cc nL) (X : xX g w fr) (hd : decode cc pc = .ok (.iastore, 1)) (hi : i = nI j) (hj : j < 10) (hA : va_up A 4 (upd (A 4) j v) = A1) (kk : J g (xP w F A1) (pc + 1) L st) : J g (xP w F A) pc L (.int v :: .int i :: .ref (xq w 4) :: st) := by
  obtain ⟨p, l, e, R, s, m, args, below, meth, c, Q, cells, slots⟩ := g
  obtain ⟨D, d, h, q, A0, H0⟩ := w
  intro H locs ls hP hl
  subst hi
  subst hA
  refine va_iast C.1 C.2.1 X.2.2.1 hP.1 hP.2.1 hP.2.2 5 0 rfl rfl (vp_in_nI hj (by decide)) hd (fun H1 locs1 hP1 hD1 hS1 => ?_)
  rw [nI_clamp (by omega)] at hP1 hD1
  exact kk H1 locs1 ls ⟨hP1, hD1, hS1⟩ hl
theorem x_ald_first {i v : Int32} (j : Nat) (C : jC g cc nL) (X : xX g w fr) (hd : decode cc pc = .ok (.iaload, 1)) (hi : i = nI j) (hj : j < 10) (hv : A 5 j = v) (kk : J g (xP w F A) (pc + 1) L (.int v :: st)) : J g (xP w F A) pc L (.int i :: .ref (xq w 5) :: st) := by
  obtain ⟨p, l, e, R, s, m, args, below, meth, c, Q, cells, slots⟩ := g
  obtain ⟨D, d, h, q, A0, H0⟩ := w
  intro H locs ls hP hl
  subst hi
  subst hv
  refine va_iald C.1 C.2.1 X.2.2.1 hP.1 6 0 rfl rfl (vp_in_nI hj (by decide)) hd ?_
  rw [nI_clamp (by omega)]
  exact kk H locs ls hP hl
theorem x_ast_first {i v : Int32} {A1 : jA} (j : Nat) (C : jC g cc nL) (X : xX g w fr) (hd : decode cc pc = .ok (.iastore, 1)) (hi : i = nI j) (hj : j < 10) (hA : va_up A 5 (upd (A 5) j v) = A1) (kk : J g (xP w F A1) (pc + 1) L st) : J g (xP w F A) pc L (.int v :: .int i :: .ref (xq w 5) :: st) := by
  obtain ⟨p, l, e, R, s, m, args, below, meth, c, Q, cells, slots⟩ := g
  obtain ⟨D, d, h, q, A0, H0⟩ := w
  intro H locs ls hP hl
  subst hi
  subst hA
  refine va_iast C.1 C.2.1 X.2.2.1 hP.1 hP.2.1 hP.2.2 6 0 rfl rfl (vp_in_nI hj (by decide)) hd (fun H1 locs1 hP1 hD1 hS1 => ?_)
  rw [nI_clamp (by omega)] at hP1 hD1
  exact kk H1 locs1 ls ⟨hP1, hD1, hS1⟩ hl
theorem x_ald_second {i v : Int32} (j : Nat) (C : jC g cc nL) (X : xX g w fr) (hd : decode cc pc = .ok (.iaload, 1)) (hi : i = nI j) (hj : j < 10) (hv : A 6 j = v) (kk : J g (xP w F A) (pc + 1) L (.int v :: st)) : J g (xP w F A) pc L (.int i :: .ref (xq w 6) :: st) := by
  obtain ⟨p, l, e, R, s, m, args, below, meth, c, Q, cells, slots⟩ := g
  obtain ⟨D, d, h, q, A0, H0⟩ := w
  intro H locs ls hP hl
  subst hi
  subst hv
  refine va_iald C.1 C.2.1 X.2.2.1 hP.1 7 0 rfl rfl (vp_in_nI hj (by decide)) hd ?_
  rw [nI_clamp (by omega)]
  exact kk H locs ls hP hl
theorem x_ast_second {i v : Int32} {A1 : jA} (j : Nat) (C : jC g cc nL) (X : xX g w fr) (hd : decode cc pc = .ok (.iastore, 1)) (hi : i = nI j) (hj : j < 10) (hA : va_up A 6 (upd (A 6) j v) = A1) (kk : J g (xP w F A1) (pc + 1) L st) : J g (xP w F A) pc L (.int v :: .int i :: .ref (xq w 6) :: st) := by
  obtain ⟨p, l, e, R, s, m, args, below, meth, c, Q, cells, slots⟩ := g
  obtain ⟨D, d, h, q, A0, H0⟩ := w
  intro H locs ls hP hl
  subst hi
  subst hA
  refine va_iast C.1 C.2.1 X.2.2.1 hP.1 hP.2.1 hP.2.2 7 0 rfl rfl (vp_in_nI hj (by decide)) hd (fun H1 locs1 hP1 hD1 hS1 => ?_)
  rw [nI_clamp (by omega)] at hP1 hD1
  exact kk H1 locs1 ls ⟨hP1, hD1, hS1⟩ hl
theorem x_ald_order {i v : Int32} (j : Nat) (C : jC g cc nL) (X : xX g w fr) (hd : decode cc pc = .ok (.iaload, 1)) (hi : i = nI j) (hj : j < 10) (hv : A 9 j = v) (kk : J g (xP w F A) (pc + 1) L (.int v :: st)) : J g (xP w F A) pc L (.int i :: .ref (xq w 9) :: st) := by
  obtain ⟨p, l, e, R, s, m, args, below, meth, c, Q, cells, slots⟩ := g
  obtain ⟨D, d, h, q, A0, H0⟩ := w
  intro H locs ls hP hl
  subst hi
  subst hv
  refine va_iald C.1 C.2.1 X.2.2.1 hP.1 8 0 rfl rfl (vp_in_nI hj (by decide)) hd ?_
  rw [nI_clamp (by omega)]
  exact kk H locs ls hP hl
theorem x_ast_order {i v : Int32} {A1 : jA} (j : Nat) (C : jC g cc nL) (X : xX g w fr) (hd : decode cc pc = .ok (.iastore, 1)) (hi : i = nI j) (hj : j < 10) (hA : va_up A 9 (upd (A 9) j v) = A1) (kk : J g (xP w F A1) (pc + 1) L st) : J g (xP w F A) pc L (.int v :: .int i :: .ref (xq w 9) :: st) := by
  obtain ⟨p, l, e, R, s, m, args, below, meth, c, Q, cells, slots⟩ := g
  obtain ⟨D, d, h, q, A0, H0⟩ := w
  intro H locs ls hP hl
  subst hi
  subst hA
  refine va_iast C.1 C.2.1 X.2.2.1 hP.1 hP.2.1 hP.2.2 8 0 rfl rfl (vp_in_nI hj (by decide)) hd (fun H1 locs1 hP1 hD1 hS1 => ?_)
  rw [nI_clamp (by omega)] at hP1 hD1
  exact kk H1 locs1 ls ⟨hP1, hD1, hS1⟩ hl
theorem x_ald_place {i v : Int32} (j : Nat) (C : jC g cc nL) (X : xX g w fr) (hd : decode cc pc = .ok (.iaload, 1)) (hi : i = nI j) (hj : j < 10) (hv : A 10 j = v) (kk : J g (xP w F A) (pc + 1) L (.int v :: st)) : J g (xP w F A) pc L (.int i :: .ref (xq w 10) :: st) := by
  obtain ⟨p, l, e, R, s, m, args, below, meth, c, Q, cells, slots⟩ := g
  obtain ⟨D, d, h, q, A0, H0⟩ := w
  intro H locs ls hP hl
  subst hi
  subst hv
  refine va_iald C.1 C.2.1 X.2.2.1 hP.1 9 0 rfl rfl (vp_in_nI hj (by decide)) hd ?_
  rw [nI_clamp (by omega)]
  exact kk H locs ls hP hl
theorem x_ast_place {i v : Int32} {A1 : jA} (j : Nat) (C : jC g cc nL) (X : xX g w fr) (hd : decode cc pc = .ok (.iastore, 1)) (hi : i = nI j) (hj : j < 10) (hA : va_up A 10 (upd (A 10) j v) = A1) (kk : J g (xP w F A1) (pc + 1) L st) : J g (xP w F A) pc L (.int v :: .int i :: .ref (xq w 10) :: st) := by
  obtain ⟨p, l, e, R, s, m, args, below, meth, c, Q, cells, slots⟩ := g
  obtain ⟨D, d, h, q, A0, H0⟩ := w
  intro H locs ls hP hl
  subst hi
  subst hA
  refine va_iast C.1 C.2.1 X.2.2.1 hP.1 hP.2.1 hP.2.2 9 0 rfl rfl (vp_in_nI hj (by decide)) hd (fun H1 locs1 hP1 hD1 hS1 => ?_)
  rw [nI_clamp (by omega)] at hP1 hD1
  exact kk H1 locs1 ls ⟨hP1, hD1, hS1⟩ hl
theorem x_ald_walkStack {i v : Int32} (j : Nat) (C : jC g cc nL) (X : xX g w fr) (hd : decode cc pc = .ok (.iaload, 1)) (hi : i = nI j) (hj : j < 11) (hv : A 11 j = v) (kk : J g (xP w F A) (pc + 1) L (.int v :: st)) : J g (xP w F A) pc L (.int i :: .ref (xq w 11) :: st) := by
  obtain ⟨p, l, e, R, s, m, args, below, meth, c, Q, cells, slots⟩ := g
  obtain ⟨D, d, h, q, A0, H0⟩ := w
  intro H locs ls hP hl
  subst hi
  subst hv
  refine va_iald C.1 C.2.1 X.2.2.1 hP.1 10 0 rfl rfl (vp_in_nI hj (by decide)) hd ?_
  rw [nI_clamp (by omega)]
  exact kk H locs ls hP hl
theorem x_ast_walkStack {i v : Int32} {A1 : jA} (j : Nat) (C : jC g cc nL) (X : xX g w fr) (hd : decode cc pc = .ok (.iastore, 1)) (hi : i = nI j) (hj : j < 11) (hA : va_up A 11 (upd (A 11) j v) = A1) (kk : J g (xP w F A1) (pc + 1) L st) : J g (xP w F A) pc L (.int v :: .int i :: .ref (xq w 11) :: st) := by
  obtain ⟨p, l, e, R, s, m, args, below, meth, c, Q, cells, slots⟩ := g
  obtain ⟨D, d, h, q, A0, H0⟩ := w
  intro H locs ls hP hl
  subst hi
  subst hA
  refine va_iast C.1 C.2.1 X.2.2.1 hP.1 hP.2.1 hP.2.2 10 0 rfl rfl (vp_in_nI hj (by decide)) hd (fun H1 locs1 hP1 hD1 hS1 => ?_)
  rw [nI_clamp (by omega)] at hP1 hD1
  exact kk H1 locs1 ls ⟨hP1, hD1, hS1⟩ hl
theorem x_ald_walkSide {i v : Int32} (j : Nat) (C : jC g cc nL) (X : xX g w fr) (hd : decode cc pc = .ok (.iaload, 1)) (hi : i = nI j) (hj : j < 11) (hv : A 12 j = v) (kk : J g (xP w F A) (pc + 1) L (.int v :: st)) : J g (xP w F A) pc L (.int i :: .ref (xq w 12) :: st) := by
  obtain ⟨p, l, e, R, s, m, args, below, meth, c, Q, cells, slots⟩ := g
  obtain ⟨D, d, h, q, A0, H0⟩ := w
  intro H locs ls hP hl
  subst hi
  subst hv
  refine va_iald C.1 C.2.1 X.2.2.1 hP.1 11 0 rfl rfl (vp_in_nI hj (by decide)) hd ?_
  rw [nI_clamp (by omega)]
  exact kk H locs ls hP hl
theorem x_ast_walkSide {i v : Int32} {A1 : jA} (j : Nat) (C : jC g cc nL) (X : xX g w fr) (hd : decode cc pc = .ok (.iastore, 1)) (hi : i = nI j) (hj : j < 11) (hA : va_up A 12 (upd (A 12) j v) = A1) (kk : J g (xP w F A1) (pc + 1) L st) : J g (xP w F A) pc L (.int v :: .int i :: .ref (xq w 12) :: st) := by
  obtain ⟨p, l, e, R, s, m, args, below, meth, c, Q, cells, slots⟩ := g
  obtain ⟨D, d, h, q, A0, H0⟩ := w
  intro H locs ls hP hl
  subst hi
  subst hA
  refine va_iast C.1 C.2.1 X.2.2.1 hP.1 hP.2.1 hP.2.2 11 0 rfl rfl (vp_in_nI hj (by decide)) hd (fun H1 locs1 hP1 hD1 hS1 => ?_)
  rw [nI_clamp (by omega)] at hP1 hD1
  exact kk H1 locs1 ls ⟨hP1, hD1, hS1⟩ hl
theorem x_ald_from {i v : Int32} (j : Nat) (C : jC g cc nL) (X : xX g w fr) (hd : decode cc pc = .ok (.iaload, 1)) (hi : i = nI j) (hj : j < 20) (hv : A 14 j = v) (kk : J g (xP w F A) (pc + 1) L (.int v :: st)) : J g (xP w F A) pc L (.int i :: .ref (xq w 14) :: st) := by
  obtain ⟨p, l, e, R, s, m, args, below, meth, c, Q, cells, slots⟩ := g
  obtain ⟨D, d, h, q, A0, H0⟩ := w
  intro H locs ls hP hl
  subst hi
  subst hv
  refine va_iald C.1 C.2.1 X.2.2.1 hP.1 12 0 rfl rfl (vp_in_nI hj (by decide)) hd ?_
  rw [nI_clamp (by omega)]
  exact kk H locs ls hP hl
theorem x_ast_from {i v : Int32} {A1 : jA} (j : Nat) (C : jC g cc nL) (X : xX g w fr) (hd : decode cc pc = .ok (.iastore, 1)) (hi : i = nI j) (hj : j < 20) (hA : va_up A 14 (upd (A 14) j v) = A1) (kk : J g (xP w F A1) (pc + 1) L st) : J g (xP w F A) pc L (.int v :: .int i :: .ref (xq w 14) :: st) := by
  obtain ⟨p, l, e, R, s, m, args, below, meth, c, Q, cells, slots⟩ := g
  obtain ⟨D, d, h, q, A0, H0⟩ := w
  intro H locs ls hP hl
  subst hi
  subst hA
  refine va_iast C.1 C.2.1 X.2.2.1 hP.1 hP.2.1 hP.2.2 12 0 rfl rfl (vp_in_nI hj (by decide)) hd (fun H1 locs1 hP1 hD1 hS1 => ?_)
  rw [nI_clamp (by omega)] at hP1 hD1
  exact kk H1 locs1 ls ⟨hP1, hD1, hS1⟩ hl
theorem x_ald_to {i v : Int32} (j : Nat) (C : jC g cc nL) (X : xX g w fr) (hd : decode cc pc = .ok (.iaload, 1)) (hi : i = nI j) (hj : j < 20) (hv : A 15 j = v) (kk : J g (xP w F A) (pc + 1) L (.int v :: st)) : J g (xP w F A) pc L (.int i :: .ref (xq w 15) :: st) := by
  obtain ⟨p, l, e, R, s, m, args, below, meth, c, Q, cells, slots⟩ := g
  obtain ⟨D, d, h, q, A0, H0⟩ := w
  intro H locs ls hP hl
  subst hi
  subst hv
  refine va_iald C.1 C.2.1 X.2.2.1 hP.1 13 0 rfl rfl (vp_in_nI hj (by decide)) hd ?_
  rw [nI_clamp (by omega)]
  exact kk H locs ls hP hl
theorem x_ast_to {i v : Int32} {A1 : jA} (j : Nat) (C : jC g cc nL) (X : xX g w fr) (hd : decode cc pc = .ok (.iastore, 1)) (hi : i = nI j) (hj : j < 20) (hA : va_up A 15 (upd (A 15) j v) = A1) (kk : J g (xP w F A1) (pc + 1) L st) : J g (xP w F A) pc L (.int v :: .int i :: .ref (xq w 15) :: st) := by
  obtain ⟨p, l, e, R, s, m, args, below, meth, c, Q, cells, slots⟩ := g
  obtain ⟨D, d, h, q, A0, H0⟩ := w
  intro H locs ls hP hl
  subst hi
  subst hA
  refine va_iast C.1 C.2.1 X.2.2.1 hP.1 hP.2.1 hP.2.2 13 0 rfl rfl (vp_in_nI hj (by decide)) hd (fun H1 locs1 hP1 hD1 hS1 => ?_)
  rw [nI_clamp (by omega)] at hP1 hD1
  exact kk H1 locs1 ls ⟨hP1, hD1, hS1⟩ hl
theorem x_ald_word {i v : Int32} (j : Nat) (C : jC g cc nL) (X : xX g w fr) (hd : decode cc pc = .ok (.iaload, 1)) (hi : i = nI j) (hj : j < 64) (hv : A 17 j = v) (kk : J g (xP w F A) (pc + 1) L (.int v :: st)) : J g (xP w F A) pc L (.int i :: .ref (xq w 17) :: st) := by
  obtain ⟨p, l, e, R, s, m, args, below, meth, c, Q, cells, slots⟩ := g
  obtain ⟨D, d, h, q, A0, H0⟩ := w
  intro H locs ls hP hl
  subst hi
  subst hv
  refine va_iald C.1 C.2.1 X.2.2.1 hP.1 14 0 rfl rfl (vp_in_nI hj (by decide)) hd ?_
  rw [nI_clamp (by omega)]
  exact kk H locs ls hP hl
theorem x_ast_word {i v : Int32} {A1 : jA} (j : Nat) (C : jC g cc nL) (X : xX g w fr) (hd : decode cc pc = .ok (.iastore, 1)) (hi : i = nI j) (hj : j < 64) (hA : va_up A 17 (upd (A 17) j v) = A1) (kk : J g (xP w F A1) (pc + 1) L st) : J g (xP w F A) pc L (.int v :: .int i :: .ref (xq w 17) :: st) := by
  obtain ⟨p, l, e, R, s, m, args, below, meth, c, Q, cells, slots⟩ := g
  obtain ⟨D, d, h, q, A0, H0⟩ := w
  intro H locs ls hP hl
  subst hi
  subst hA
  refine va_iast C.1 C.2.1 X.2.2.1 hP.1 hP.2.1 hP.2.2 14 0 rfl rfl (vp_in_nI hj (by decide)) hd (fun H1 locs1 hP1 hD1 hS1 => ?_)
  rw [nI_clamp (by omega)] at hP1 hD1
  exact kk H1 locs1 ls ⟨hP1, hD1, hS1⟩ hl
theorem x_ald_with {i v : Int32} (j : Nat) (C : jC g cc nL) (X : xX g w fr) (hd : decode cc pc = .ok (.iaload, 1)) (hi : i = nI j) (hj : j < 64) (hv : A 18 j = v) (kk : J g (xP w F A) (pc + 1) L (.int v :: st)) : J g (xP w F A) pc L (.int i :: .ref (xq w 18) :: st) := by
  obtain ⟨p, l, e, R, s, m, args, below, meth, c, Q, cells, slots⟩ := g
  obtain ⟨D, d, h, q, A0, H0⟩ := w
  intro H locs ls hP hl
  subst hi
  subst hv
  refine va_iald C.1 C.2.1 X.2.2.1 hP.1 15 0 rfl rfl (vp_in_nI hj (by decide)) hd ?_
  rw [nI_clamp (by omega)]
  exact kk H locs ls hP hl
theorem x_ast_with {i v : Int32} {A1 : jA} (j : Nat) (C : jC g cc nL) (X : xX g w fr) (hd : decode cc pc = .ok (.iastore, 1)) (hi : i = nI j) (hj : j < 64) (hA : va_up A 18 (upd (A 18) j v) = A1) (kk : J g (xP w F A1) (pc + 1) L st) : J g (xP w F A) pc L (.int v :: .int i :: .ref (xq w 18) :: st) := by
  obtain ⟨p, l, e, R, s, m, args, below, meth, c, Q, cells, slots⟩ := g
  obtain ⟨D, d, h, q, A0, H0⟩ := w
  intro H locs ls hP hl
  subst hi
  subst hA
  refine va_iast C.1 C.2.1 X.2.2.1 hP.1 hP.2.1 hP.2.2 15 0 rfl rfl (vp_in_nI hj (by decide)) hd (fun H1 locs1 hP1 hD1 hS1 => ?_)
  rw [nI_clamp (by omega)] at hP1 hD1
  exact kk H1 locs1 ls ⟨hP1, hD1, hS1⟩ hl
theorem x_ald_loopStart {i v : Int32} (j : Nat) (C : jC g cc nL) (X : xX g w fr) (hd : decode cc pc = .ok (.iaload, 1)) (hi : i = nI j) (hj : j < 20) (hv : A 19 j = v) (kk : J g (xP w F A) (pc + 1) L (.int v :: st)) : J g (xP w F A) pc L (.int i :: .ref (xq w 19) :: st) := by
  obtain ⟨p, l, e, R, s, m, args, below, meth, c, Q, cells, slots⟩ := g
  obtain ⟨D, d, h, q, A0, H0⟩ := w
  intro H locs ls hP hl
  subst hi
  subst hv
  refine va_iald C.1 C.2.1 X.2.2.1 hP.1 16 0 rfl rfl (vp_in_nI hj (by decide)) hd ?_
  rw [nI_clamp (by omega)]
  exact kk H locs ls hP hl
theorem x_ast_loopStart {i v : Int32} {A1 : jA} (j : Nat) (C : jC g cc nL) (X : xX g w fr) (hd : decode cc pc = .ok (.iastore, 1)) (hi : i = nI j) (hj : j < 20) (hA : va_up A 19 (upd (A 19) j v) = A1) (kk : J g (xP w F A1) (pc + 1) L st) : J g (xP w F A) pc L (.int v :: .int i :: .ref (xq w 19) :: st) := by
  obtain ⟨p, l, e, R, s, m, args, below, meth, c, Q, cells, slots⟩ := g
  obtain ⟨D, d, h, q, A0, H0⟩ := w
  intro H locs ls hP hl
  subst hi
  subst hA
  refine va_iast C.1 C.2.1 X.2.2.1 hP.1 hP.2.1 hP.2.2 16 0 rfl rfl (vp_in_nI hj (by decide)) hd (fun H1 locs1 hP1 hD1 hS1 => ?_)
  rw [nI_clamp (by omega)] at hP1 hD1
  exact kk H1 locs1 ls ⟨hP1, hD1, hS1⟩ hl
theorem x_ald_var {i v : Int32} (j : Nat) (C : jC g cc nL) (X : xX g w fr) (hd : decode cc pc = .ok (.iaload, 1)) (hi : i = nI j) (hj : j < 4) (hv : A 20 j = v) (kk : J g (xP w F A) (pc + 1) L (.int v :: st)) : J g (xP w F A) pc L (.int i :: .ref (xq w 20) :: st) := by
  obtain ⟨p, l, e, R, s, m, args, below, meth, c, Q, cells, slots⟩ := g
  obtain ⟨D, d, h, q, A0, H0⟩ := w
  intro H locs ls hP hl
  subst hi
  subst hv
  refine va_iald C.1 C.2.1 X.2.2.1 hP.1 17 0 rfl rfl (vp_in_nI hj (by decide)) hd ?_
  rw [nI_clamp (by omega)]
  exact kk H locs ls hP hl
theorem x_ast_var {i v : Int32} {A1 : jA} (j : Nat) (C : jC g cc nL) (X : xX g w fr) (hd : decode cc pc = .ok (.iastore, 1)) (hi : i = nI j) (hj : j < 4) (hA : va_up A 20 (upd (A 20) j v) = A1) (kk : J g (xP w F A1) (pc + 1) L st) : J g (xP w F A) pc L (.int v :: .int i :: .ref (xq w 20) :: st) := by
  obtain ⟨p, l, e, R, s, m, args, below, meth, c, Q, cells, slots⟩ := g
  obtain ⟨D, d, h, q, A0, H0⟩ := w
  intro H locs ls hP hl
  subst hi
  subst hA
  refine va_iast C.1 C.2.1 X.2.2.1 hP.1 hP.2.1 hP.2.2 17 0 rfl rfl (vp_in_nI hj (by decide)) hd (fun H1 locs1 hP1 hD1 hS1 => ?_)
  rw [nI_clamp (by omega)] at hP1 hD1
  exact kk H1 locs1 ls ⟨hP1, hD1, hS1⟩ hl
theorem x_ald_seen {i v : Int32} (j : Nat) (C : jC g cc nL) (X : xX g w fr) (hd : decode cc pc = .ok (.iaload, 1)) (hi : i = nI j) (hj : j < 10) (hv : A 24 j = v) (kk : J g (xP w F A) (pc + 1) L (.int v :: st)) : J g (xP w F A) pc L (.int i :: .ref (xq w 24) :: st) := by
  obtain ⟨p, l, e, R, s, m, args, below, meth, c, Q, cells, slots⟩ := g
  obtain ⟨D, d, h, q, A0, H0⟩ := w
  intro H locs ls hP hl
  subst hi
  subst hv
  refine va_iald C.1 C.2.1 X.2.2.1 hP.1 18 0 rfl rfl (vp_in_nI hj (by decide)) hd ?_
  rw [nI_clamp (by omega)]
  exact kk H locs ls hP hl
theorem x_ast_seen {i v : Int32} {A1 : jA} (j : Nat) (C : jC g cc nL) (X : xX g w fr) (hd : decode cc pc = .ok (.iastore, 1)) (hi : i = nI j) (hj : j < 10) (hA : va_up A 24 (upd (A 24) j v) = A1) (kk : J g (xP w F A1) (pc + 1) L st) : J g (xP w F A) pc L (.int v :: .int i :: .ref (xq w 24) :: st) := by
  obtain ⟨p, l, e, R, s, m, args, below, meth, c, Q, cells, slots⟩ := g
  obtain ⟨D, d, h, q, A0, H0⟩ := w
  intro H locs ls hP hl
  subst hi
  subst hA
  refine va_iast C.1 C.2.1 X.2.2.1 hP.1 hP.2.1 hP.2.2 18 0 rfl rfl (vp_in_nI hj (by decide)) hd (fun H1 locs1 hP1 hD1 hS1 => ?_)
  rw [nI_clamp (by omega)] at hP1 hD1
  exact kk H1 locs1 ls ⟨hP1, hD1, hS1⟩ hl
theorem x_ald_lastOut {i v : Int32} (j : Nat) (C : jC g cc nL) (X : xX g w fr) (hd : decode cc pc = .ok (.iaload, 1)) (hi : i = nI j) (hj : j < 16) (hv : A 26 j = v) (kk : J g (xP w F A) (pc + 1) L (.int v :: st)) : J g (xP w F A) pc L (.int i :: .ref (xq w 26) :: st) := by
  obtain ⟨p, l, e, R, s, m, args, below, meth, c, Q, cells, slots⟩ := g
  obtain ⟨D, d, h, q, A0, H0⟩ := w
  intro H locs ls hP hl
  subst hi
  subst hv
  refine va_iald C.1 C.2.1 X.2.2.1 hP.1 19 0 rfl rfl (vp_in_nI hj (by decide)) hd ?_
  rw [nI_clamp (by omega)]
  exact kk H locs ls hP hl
theorem x_ast_lastOut {i v : Int32} {A1 : jA} (j : Nat) (C : jC g cc nL) (X : xX g w fr) (hd : decode cc pc = .ok (.iastore, 1)) (hi : i = nI j) (hj : j < 16) (hA : va_up A 26 (upd (A 26) j v) = A1) (kk : J g (xP w F A1) (pc + 1) L st) : J g (xP w F A) pc L (.int v :: .int i :: .ref (xq w 26) :: st) := by
  obtain ⟨p, l, e, R, s, m, args, below, meth, c, Q, cells, slots⟩ := g
  obtain ⟨D, d, h, q, A0, H0⟩ := w
  intro H locs ls hP hl
  subst hi
  subst hA
  refine va_iast C.1 C.2.1 X.2.2.1 hP.1 hP.2.1 hP.2.2 19 0 rfl rfl (vp_in_nI hj (by decide)) hd (fun H1 locs1 hP1 hD1 hS1 => ?_)
  rw [nI_clamp (by omega)] at hP1 hD1
  exact kk H1 locs1 ls ⟨hP1, hD1, hS1⟩ hl
end xRO
def xB (D : va_G) (d : ClassId) (h : Nat) (q : Nat → Nat) (A0 : Nat → Prop) (u : jF × jA) (t : State) : Prop := va_P D vwCl (xW h q d u.1 u.2) t.heap ∧ va_K D vwCl [(d, .int)] t ∧ va_D A0 (xW h q d u.1 u.2)
def xPre (D : va_G) (d : ClassId) (h : Nat) (q : Nat → Nat) (F : jF) (A : jA) (sz : Nat) (U : State) : Prop := U.heap.size = sz ∧ va_P D vwCl (xW h q d F A) U.heap ∧ va_K D vwCl [(d, .int)] U ∧ va_D (fun _ => True) (xW h q d F A)
/-- contract of an instance method that answers an int (or a boolean) -/
def xMi (y : MethodName) (cc : ByteArray) (nL : Nat) (rt : FieldType) (fr : Nat) (av : List Value) (F : jF) (A : jA) (post : Int32 → jF → jA → Prop) : Prop :=
  ∀ (l : Launch) (D : va_G) (d : ClassId) (h : Nat) (q : Nat → Nat) (sz : Nat), Met l y (ws_ y cc nL (some rt)) (rmN fr) (va_Pc (.ref h :: av) (xPre D d h q F A sz)) (va_Qi (fun (r : Int32) (u : jF × jA) => post r u.1 u.2) (xB D d h q (va_A (xW h q d F A) sz)) (va_A (xW h q d F A) sz)) 0 0 (va_A (xW h q d F A) sz)
/-- contract of an instance method without an answer -/
def xMv (y : MethodName) (cc : ByteArray) (nL : Nat) (fr : Nat) (av : List Value) (F : jF) (A : jA) (post : jF → jA → Prop) : Prop :=
  ∀ (l : Launch) (D : va_G) (d : ClassId) (h : Nat) (q : Nat → Nat) (sz : Nat), Met l y (ws_ y cc nL none) (rmN fr) (va_Pc (.ref h :: av) (xPre D d h q F A sz)) (va_Qv (fun (u : jF × jA) => post u.1 u.2) (xB D d h q (va_A (xW h q d F A) sz)) (va_A (xW h q d F A) sz)) 0 0 (va_A (xW h q d F A) sz)
/-- contract of a static method that answers an int (or a boolean) -/
def xSi (y : MethodName) (cc : ByteArray) (nL : Nat) (rt : FieldType) (fr : Nat) (av : List Value) (F : jF) (A : jA) (post : Int32 → jF → jA → Prop) : Prop :=
  ∀ (l : Launch) (D : va_G) (d : ClassId) (h : Nat) (q : Nat → Nat) (sz : Nat), Met l y (ws_ y cc nL (some rt)) (rmN fr) (va_Pc av (xPre D d h q F A sz)) (va_Qi (fun (r : Int32) (u : jF × jA) => post r u.1 u.2) (xB D d h q (va_A (xW h q d F A) sz)) (va_A (xW h q d F A) sz)) 0 0 (va_A (xW h q d F A) sz)
theorem xMi.intro {y : MethodName} {cc : ByteArray} {nL : Nat} {rt : FieldType} {fr : Nat} {av : List Value} {F : jF} {A : jA} {post : Int32 → jF → jA → Prop} (L0 : Nat → List (Option Value)) (hy : plainName y.cls = true) (hc : y.cls = RX0) (hL1 : ∀ h, lvs 0 (L0 h) = lv_args 0 (.ref h :: av)) (hL2 : ∀ h, (L0 h).length = nL) (hL3 : ∀ h : Nat, (lg_sl (.ref h :: av)).length ≤ nL)
    (body : ∀ (g : jG) (w : xT), jC g cc nL → xX g w fr → (∀ (pc : Nat) (L : List (Option Value)) (r : Int32) (F1 : jF) (A1 : jA), decode cc pc = .ok (.ireturn, 1) → narrow rt (.int r) = .int r → post r F1 A1 → J g (xP w F1 A1) pc L [.int r]) → J g (xP w F A) 0 (L0 (xh w)) []) : xMi y cc nL rt fr av F A post := by
  intro l D d h q sz
  refine Met.ofW (cc := cc) (maxL := nL) (ret := some rt) hy rfl ?_
  intro p e s m args below meth c s₁ B hml hv
  obtain ⟨rfl, hsz, hP, hK, hD0⟩ := hv
  have hts := atoms_spec (ws := ws_ y cc nL (some rt)) B.pre
  have hts : ∀ w ∈ lw_all, w.before _ s = true := fun w h => hts w (List.mem_cons_of_mem _ h)
  have hown : s.vm.findClass RX0 = some m.cls := by
    rw [← hc]
    exact findClass_of_methodNamed B.named
  subst hsz
  have hD := hD0.self (sz := s.heap.size)
  have hA : ∀ x : Nat, s.heap.size ≤ x → va_A (xW h q d F A) s.heap.size x := fun x hx => Or.inr hx
  rw [lg_entry_eq]
  have hl := lv_entry (.ref h :: av) (n := nL) (hL3 h)
  refine body (p, l, e, rmN fr, s, m, _, below, meth, c, _, 0, 0) (D, d, h, q, va_A (xW h q d F A) s.heap.size, s.heap) ⟨B.exec, B.bytes, hml⟩ ⟨hown, hts, hK, rfl, hA, Nat.le_refl _, Nat.le_refl _, Nat.le_refl _, Nat.le_refl _⟩ ?_ s.heap [] _ ⟨hP, hD, va_S.rf⟩ ?_
  · intro pc L r F1 A1 hd hn hp H locs ls hP1 hl1
    exact W.zret B.exec B.bytes B.returns hn (fun t ht hW => ⟨⟨r, (F1, A1), rfl, hp, by rw [ht]; exact hP1.1, va_K.moved hW.alike hK, hP1.2.1⟩, hP1.2.2.F ht⟩) hP1.2.2.2.2 hd B.notSynchronized
  · rw [hL2, show xh (D, d, h, q, va_A (xW h q d F A) s.heap.size, s.heap) = h from rfl, hL1]
    exact hl
theorem xSi.intro {y : MethodName} {cc : ByteArray} {nL : Nat} {rt : FieldType} {fr : Nat} {av : List Value} {F : jF} {A : jA} {post : Int32 → jF → jA → Prop} (L0 : List (Option Value)) (hy : plainName y.cls = true) (hc : y.cls = RX0) (hL1 : lvs 0 L0 = lv_args 0 av) (hL2 : L0.length = nL) (hL3 : (lg_sl av).length ≤ nL)
    (body : ∀ (g : jG) (w : xT), jC g cc nL → xX g w fr → (∀ (pc : Nat) (L : List (Option Value)) (r : Int32) (F1 : jF) (A1 : jA), decode cc pc = .ok (.ireturn, 1) → narrow rt (.int r) = .int r → post r F1 A1 → J g (xP w F1 A1) pc L [.int r]) → J g (xP w F A) 0 L0 []) : xSi y cc nL rt fr av F A post := by
  intro l D d h q sz
  refine Met.ofW (cc := cc) (maxL := nL) (ret := some rt) hy rfl ?_
  intro p e s m args below meth c s₁ B hml hv
  obtain ⟨rfl, hsz, hP, hK, hD0⟩ := hv
  have hts := atoms_spec (ws := ws_ y cc nL (some rt)) B.pre
  have hts : ∀ w ∈ lw_all, w.before _ s = true := fun w h => hts w (List.mem_cons_of_mem _ h)
  have hown : s.vm.findClass RX0 = some m.cls := by
    rw [← hc]
    exact findClass_of_methodNamed B.named
  subst hsz
  have hD := hD0.self (sz := s.heap.size)
  have hA : ∀ x : Nat, s.heap.size ≤ x → va_A (xW h q d F A) s.heap.size x := fun x hx => Or.inr hx
  rw [lg_entry_eq]
  have hl := lv_entry av (n := nL) hL3
  refine body (p, l, e, rmN fr, s, m, _, below, meth, c, _, 0, 0) (D, d, h, q, va_A (xW h q d F A) s.heap.size, s.heap) ⟨B.exec, B.bytes, hml⟩ ⟨hown, hts, hK, rfl, hA, Nat.le_refl _, Nat.le_refl _, Nat.le_refl _, Nat.le_refl _⟩ ?_ s.heap [] _ ⟨hP, hD, va_S.rf⟩ ?_
  · intro pc L r F1 A1 hd hn hp H locs ls hP1 hl1
    exact W.zret B.exec B.bytes B.returns hn (fun t ht hW => ⟨⟨r, (F1, A1), rfl, hp, by rw [ht]; exact hP1.1, va_K.moved hW.alike hK, hP1.2.1⟩, hP1.2.2.F ht⟩) hP1.2.2.2.2 hd B.notSynchronized
  · rw [hL2, hL1]
    exact hl
theorem xMv.intro {y : MethodName} {cc : ByteArray} {nL : Nat} {fr : Nat} {av : List Value} {F : jF} {A : jA} {post : jF → jA → Prop} (L0 : Nat → List (Option Value)) (hy : plainName y.cls = true) (hc : y.cls = RX0) (hL1 : ∀ h, lvs 0 (L0 h) = lv_args 0 (.ref h :: av)) (hL2 : ∀ h, (L0 h).length = nL) (hL3 : ∀ h : Nat, (lg_sl (.ref h :: av)).length ≤ nL)
    (body : ∀ (g : jG) (w : xT), jC g cc nL → xX g w fr → (∀ (pc : Nat) (L : List (Option Value)) (F1 : jF) (A1 : jA), decode cc pc = .ok (.return_, 1) → post F1 A1 → J g (xP w F1 A1) pc L []) → J g (xP w F A) 0 (L0 (xh w)) []) : xMv y cc nL fr av F A post := by
  intro l D d h q sz
  refine Met.ofW (cc := cc) (maxL := nL) (ret := none) hy rfl ?_
  intro p e s m args below meth c s₁ B hml hv
  obtain ⟨rfl, hsz, hP, hK, hD0⟩ := hv
  have hts := atoms_spec (ws := ws_ y cc nL none) B.pre
  have hts : ∀ w ∈ lw_all, w.before _ s = true := fun w h => hts w (List.mem_cons_of_mem _ h)
  have hown : s.vm.findClass RX0 = some m.cls := by
    rw [← hc]
    exact findClass_of_methodNamed B.named
  subst hsz
  have hD := hD0.self (sz := s.heap.size)
  have hA : ∀ x : Nat, s.heap.size ≤ x → va_A (xW h q d F A) s.heap.size x := fun x hx => Or.inr hx
  rw [lg_entry_eq]
  have hl := lv_entry (.ref h :: av) (n := nL) (hL3 h)
  refine body (p, l, e, rmN fr, s, m, _, below, meth, c, _, 0, 0) (D, d, h, q, va_A (xW h q d F A) s.heap.size, s.heap) ⟨B.exec, B.bytes, hml⟩ ⟨hown, hts, hK, rfl, hA, Nat.le_refl _, Nat.le_refl _, Nat.le_refl _, Nat.le_refl _⟩ ?_ s.heap [] _ ⟨hP, hD, va_S.rf⟩ ?_
  · intro pc L F1 A1 hd hp H locs ls hP1 hl1
    exact W.vret B.exec B.bytes B.returns (fun t ht hW => ⟨⟨(F1, A1), rfl, hp, by rw [ht]; exact hP1.1, va_K.moved hW.alike hK, hP1.2.1⟩, hP1.2.2.F ht⟩) hP1.2.2.2.2 hd B.notSynchronized
  · rw [hL2, show xh (D, d, h, q, va_A (xW h q d F A) s.heap.size, s.heap) = h from rfl, hL1]
    exact hl
section xCA
variable {g : jG} {w : xT} {cc cc1 : ByteArray} {nL fr pc idx nL1 fr1 n : Nat} {L : List (Option Value)} {st rest av : List Value} {F : jF} {A : jA} {y : MethodName} {rt : FieldType}
theorem x_calli {post : Int32 → jF → jA → Prop} (C : jC g cc nL) (X : xX g w fr) (hM : xMi y cc1 nL1 rt fr1 av F A post) (hV : GoodIn lw_all (wsV RX0 idx RX0 y (ws_ y cc1 nL1 (some rt)))) (hdd : y.cls = RX0 ∧ y.cls ≠ "java/lang/invoke/MethodHandle" ∧ y.cls ≠ "java/lang/invoke/VarHandle" ∧ (parseMethodDescriptor y.desc).map (fun d => d.parameters.length) = some n) (hn : av.length = n) (hfr : fr1 + 1 ≤ fr) (hm : nL1 ≤ 11) (hd : decode cc pc = .ok (.invokevirtual idx, 3)) (hst : st = av.reverse ++ .ref (xh w) :: rest) (hsum : (rest.map fun v => v.category).sum ≤ 8) (hL : L.length = nL) (kk : ∀ (r : Int32) (F1 : jF) (A1 : jA), post r F1 A1 → J g (xP w F1 A1) (pc + 3) L (.int r :: rest)) : J g (xP w F A) pc L st := by
  obtain ⟨p, l, e, R, s, m, args, below, meth, c, Q, cells, slots⟩ := g
  obtain ⟨D, d, h, q, A0, H0⟩ := w
  intro H locs ls hPP hl
  obtain ⟨hown, hts, hK, hH0, hA, hRf, hRl, hRc, hRs⟩ := X
  obtain ⟨hP, hD, hS⟩ := hPP
  subst hH0
  subst hst
  have hFc : ∀ x : Nat, va_A (xW h q d F A) H.size x → A0 x := fun x hx => hx.elim (fun ⟨k, e, hk⟩ => hD.2 k (x, e) hk) (fun hx => hA x (Nat.le_trans hS.1 hx))
  refine va_calli (va_runV (As := av) (rest := rest) ⟨C.1, C.2.1, C.2.2, hown, hts⟩ (hM l D d h q H.size) (cwV n hts hV rfl rfl rfl hdd ⟨Nat.le_trans hfr hRf, by simp only [rmN]; omega⟩) ⟨fun a U g mk q => by obtain ⟨q0, q1, qP, qK, qD⟩ := q; exact ⟨q0, q1, qP, va_K.moved (u := U) (U := U.calling g mk a) (Vm.Alike.refl U.vm) qK, qD⟩, va_recv hK hP (ci := 0) (q0 := 0) rfl rfl, fun U hU hW => ⟨rfl, by rw [hU], by rw [hU]; exact hP, va_K.moved hW.alike hK, hD.weaken (fun _ _ _ _ => trivial)⟩⟩ rfl hn (hl.1.trans hL) rfl (lv_room hsum) hd ⟨hRc, hRs⟩) hS (fun q _ h => hFc q h) hFc (fun r u t H1 locs1 ht hvm hw hB hz hk hS1 => ?_)
  obtain ⟨F1, A1⟩ := u
  obtain ⟨hP1, hK1, hD1⟩ := hB
  rw [ht] at hP1
  exact kk r F1 A1 hw H1 locs1 ls ⟨hP1, hD1.weaken (fun _ q _ hx => hFc _ hx), hS1⟩ hl
theorem x_callv {post : jF → jA → Prop} (C : jC g cc nL) (X : xX g w fr) (hM : xMv y cc1 nL1 fr1 av F A post) (hV : GoodIn lw_all (wsV RX0 idx RX0 y (ws_ y cc1 nL1 none))) (hdd : y.cls = RX0 ∧ y.cls ≠ "java/lang/invoke/MethodHandle" ∧ y.cls ≠ "java/lang/invoke/VarHandle" ∧ (parseMethodDescriptor y.desc).map (fun d => d.parameters.length) = some n) (hn : av.length = n) (hfr : fr1 + 1 ≤ fr) (hm : nL1 ≤ 11) (hd : decode cc pc = .ok (.invokevirtual idx, 3)) (hst : st = av.reverse ++ .ref (xh w) :: rest) (hsum : (rest.map fun v => v.category).sum ≤ 8) (hL : L.length = nL) (kk : ∀ (F1 : jF) (A1 : jA), post F1 A1 → J g (xP w F1 A1) (pc + 3) L rest) : J g (xP w F A) pc L st := by
  obtain ⟨p, l, e, R, s, m, args, below, meth, c, Q, cells, slots⟩ := g
  obtain ⟨D, d, h, q, A0, H0⟩ := w
  intro H locs ls hPP hl
  obtain ⟨hown, hts, hK, hH0, hA, hRf, hRl, hRc, hRs⟩ := X
  obtain ⟨hP, hD, hS⟩ := hPP
  subst hH0
  subst hst
  have hFc : ∀ x : Nat, va_A (xW h q d F A) H.size x → A0 x := fun x hx => hx.elim (fun ⟨k, e, hk⟩ => hD.2 k (x, e) hk) (fun hx => hA x (Nat.le_trans hS.1 hx))
  refine va_callv (va_runV (As := av) (rest := rest) ⟨C.1, C.2.1, C.2.2, hown, hts⟩ (hM l D d h q H.size) (cwV n hts hV rfl rfl rfl hdd ⟨Nat.le_trans hfr hRf, by simp only [rmN]; omega⟩) ⟨fun a U g mk q => by obtain ⟨q0, q1, qP, qK, qD⟩ := q; exact ⟨q0, q1, qP, va_K.moved (u := U) (U := U.calling g mk a) (Vm.Alike.refl U.vm) qK, qD⟩, va_recv hK hP (ci := 0) (q0 := 0) rfl rfl, fun U hU hW => ⟨rfl, by rw [hU], by rw [hU]; exact hP, va_K.moved hW.alike hK, hD.weaken (fun _ _ _ _ => trivial)⟩⟩ rfl hn (hl.1.trans hL) rfl (lv_room hsum) hd ⟨hRc, hRs⟩) hS (fun q _ h => hFc q h) hFc (fun u t H1 locs1 ht hvm hw hB hz hk hS1 => ?_)
  obtain ⟨F1, A1⟩ := u
  obtain ⟨hP1, hK1, hD1⟩ := hB
  rw [ht] at hP1
  exact kk F1 A1 hw H1 locs1 ls ⟨hP1, hD1.weaken (fun _ q _ hx => hFc _ hx), hS1⟩ hl
theorem x_calls {post : Int32 → jF → jA → Prop} (C : jC g cc nL) (X : xX g w fr) (hM : xSi y cc1 nL1 rt fr1 av F A post) (hV : GoodIn lw_all (va_wsS RX0 idx y (ws_ y cc1 nL1 (some rt)))) (hdd : y.cls ≠ "java/lang/invoke/MethodHandle" ∧ y.cls ≠ "java/lang/invoke/VarHandle" ∧ (parseMethodDescriptor y.desc).map (fun d => d.parameters.length) = some n) (hn : av.length = n) (hfr : fr1 + 1 ≤ fr) (hm : nL1 ≤ 11) (hd : decode cc pc = .ok (.invokestatic idx, 3)) (hst : st = av.reverse ++ rest) (hsum : (rest.map fun v => v.category).sum ≤ 8) (hL : L.length = nL) (kk : ∀ (r : Int32) (F1 : jF) (A1 : jA), post r F1 A1 → J g (xP w F1 A1) (pc + 3) L (.int r :: rest)) : J g (xP w F A) pc L st := by
  obtain ⟨p, l, e, R, s, m, args, below, meth, c, Q, cells, slots⟩ := g
  obtain ⟨D, d, h, q, A0, H0⟩ := w
  intro H locs ls hPP hl
  obtain ⟨hown, hts, hK, hH0, hA, hRf, hRl, hRc, hRs⟩ := X
  obtain ⟨hP, hD, hS⟩ := hPP
  subst hH0
  subst hst
  have hFc : ∀ x : Nat, va_A (xW h q d F A) H.size x → A0 x := fun x hx => hx.elim (fun ⟨k, e, hk⟩ => hD.2 k (x, e) hk) (fun hx => hA x (Nat.le_trans hS.1 hx))
  refine va_calli (va_runS (As := av) (rest := rest) ⟨C.1, C.2.1, C.2.2, hown, hts⟩ (hM l D d h q H.size) (va_cwS n hts hV rfl rfl rfl hdd ⟨Nat.le_trans hfr hRf, by simp only [rmN]; omega⟩) ⟨fun a U g mk q => by obtain ⟨q0, q1, qP, qK, qD⟩ := q; exact ⟨q0, q1, qP, va_K.moved (u := U) (U := U.calling g mk a) (Vm.Alike.refl U.vm) qK, qD⟩, fun U hU hW => ⟨rfl, by rw [hU], by rw [hU]; exact hP, va_K.moved hW.alike hK, hD.weaken (fun _ _ _ _ => trivial)⟩⟩ rfl hn (hl.1.trans hL) rfl (lv_room hsum) hd ⟨hRc, hRs⟩) hS (fun q _ h => hFc q h) hFc (fun r u t H1 locs1 ht hvm hw hB hz hk hS1 => ?_)
  obtain ⟨F1, A1⟩ := u
  obtain ⟨hP1, hK1, hD1⟩ := hB
  rw [ht] at hP1
  exact kk r F1 A1 hw H1 locs1 ls ⟨hP1, hD1.weaken (fun _ q _ hx => hFc _ hx), hS1⟩ hl
/-- a call that answers and changes nothing -/
theorem x_callip {post : Int32 → Prop} (C : jC g cc nL) (X : xX g w fr) (hM : xMi y cc1 nL1 rt fr1 av F A (fun r F1 A1 => F1 = F ∧ A1 = A ∧ post r)) (hV : GoodIn lw_all (wsV RX0 idx RX0 y (ws_ y cc1 nL1 (some rt)))) (hdd : y.cls = RX0 ∧ y.cls ≠ "java/lang/invoke/MethodHandle" ∧ y.cls ≠ "java/lang/invoke/VarHandle" ∧ (parseMethodDescriptor y.desc).map (fun d => d.parameters.length) = some n) (hn : av.length = n) (hfr : fr1 + 1 ≤ fr) (hm : nL1 ≤ 11) (hd : decode cc pc = .ok (.invokevirtual idx, 3)) (hst : st = av.reverse ++ .ref (xh w) :: rest) (hsum : (rest.map fun v => v.category).sum ≤ 8) (hL : L.length = nL) (kk : ∀ (r : Int32), post r → J g (xP w F A) (pc + 3) L (.int r :: rest)) : J g (xP w F A) pc L st :=
  x_calli C X hM hV hdd hn hfr hm hd hst hsum hL (fun r F1 A1 hp => by rw [hp.1, hp.2.1]; exact kk r hp.2.2)
theorem x_callsp {post : Int32 → Prop} (C : jC g cc nL) (X : xX g w fr) (hM : xSi y cc1 nL1 rt fr1 av F A (fun r F1 A1 => F1 = F ∧ A1 = A ∧ post r)) (hV : GoodIn lw_all (va_wsS RX0 idx y (ws_ y cc1 nL1 (some rt)))) (hdd : y.cls ≠ "java/lang/invoke/MethodHandle" ∧ y.cls ≠ "java/lang/invoke/VarHandle" ∧ (parseMethodDescriptor y.desc).map (fun d => d.parameters.length) = some n) (hn : av.length = n) (hfr : fr1 + 1 ≤ fr) (hm : nL1 ≤ 11) (hd : decode cc pc = .ok (.invokestatic idx, 3)) (hst : st = av.reverse ++ rest) (hsum : (rest.map fun v => v.category).sum ≤ 8) (hL : L.length = nL) (kk : ∀ (r : Int32), post r → J g (xP w F A) (pc + 3) L (.int r :: rest)) : J g (xP w F A) pc L st :=
  x_calls C X hM hV hdd hn hfr hm hd hst hsum hL (fun r F1 A1 hp => by rw [hp.1, hp.2.1]; exact kk r hp.2.2)
end xCA
end
section
def mfs (q : Nat → Nat) (F : jF) : List Value := [.ref (q 0), .ref (q 1), .ref (q 2), .ref (q 3), .ref (q 4), .ref (q 5), .ref (q 6), .ref (q 7), .ref (q 8), .int (F 9), .ref (q 10), .ref (q 11), .int (F 12)]
def mW (h : Nat) (q : Nat → Nat) (d : ClassId) (F : jF) (A : jA) : va_W := [(h, .inr (1, mfs q F)), (q 0, .inl (d, 10, .inl (A 0))), (q 1, .inl (d, 30, .inl (A 1))), (q 2, .inl (d, 30, .inl (A 2))), (q 3, .inl (d, 30, .inl (A 3))), (q 4, .inl (d, 10, .inl (A 4))), (q 5, .inl (d, 10, .inl (A 5))), (q 6, .inl (d, 10, .inl (A 6))), (q 7, .inl (d, 10, .inl (A 7))), (q 8, .inl (d, 4, .inl (A 8))), (q 10, .inl (d, 16, .inl (A 10))), (q 11, .inl (d, 10, .inl (A 11)))]
def mP (w : xT) (F : jF) (A : jA) (H : Heap) (locs : List Loc) : Prop :=
  match w with
  | (D, d, h, q, A0, H0) => va_P D vwCl (mW h q d F A) H ∧ va_D A0 (mW h q d F A) ∧ va_S A0 H0 H locs
def mX (g : jG) (w : xT) (fr : Nat) : Prop :=
  match g, w with
  | (p, l, e, R, s, m, args, below, meth, c, Q, cells, slots), (D, d, h, q, A0, H0) => s.vm.findClass RX1 = some m.cls ∧ (∀ w ∈ lw_all, w.before args s = true) ∧ va_K D vwCl [(d, .int)] s ∧ H0 = s.heap ∧ (∀ q, s.heap.size ≤ q → A0 q) ∧ fr ≤ R.frames ∧ 30 * fr ≤ R.locals ∧ cells ≤ R.cells ∧ slots ≤ R.slots
section mRO
variable {g : jG} {w : xT} {cc : ByteArray} {nL fr pc : Nat} {L : List (Option Value)} {st : List Value} {F : jF} {A : jA}
set_option maxRecDepth 20000 in
theorem m_get_counts (C : jC g cc nL) (X : mX g w fr) (hd : decode cc pc = .ok (.getfield 7, 3)) (kk : J g (mP w F A) (pc + 3) L (.ref (xq w 0) :: st)) : J g (mP w F A) pc L (.ref (xh w) :: st) := by
  obtain ⟨p, l, e, R, s, m, args, below, meth, c, Q, cells, slots⟩ := g
  obtain ⟨D, d, h, q, A0, H0⟩ := w
  intro H locs ls hP hl
  exact va_get (D := D) (ci := 1) (v := .ref (q 0)) (C := RX1) (T := TX1) (N := 13) C.1 C.2.1 X.2.1 in_X1 X.1 X.2.2.1 hP.1 0 rfl rfl 0 (by decide) (X.2.1 _ q223) (fun _ h9 => h9) rfl hd (kk H locs ls hP hl)
set_option maxRecDepth 20000 in
theorem m_get_ops (C : jC g cc nL) (X : mX g w fr) (hd : decode cc pc = .ok (.getfield 13, 3)) (kk : J g (mP w F A) (pc + 3) L (.ref (xq w 1) :: st)) : J g (mP w F A) pc L (.ref (xh w) :: st) := by
  obtain ⟨p, l, e, R, s, m, args, below, meth, c, Q, cells, slots⟩ := g
  obtain ⟨D, d, h, q, A0, H0⟩ := w
  intro H locs ls hP hl
  exact va_get (D := D) (ci := 1) (v := .ref (q 1)) (C := RX1) (T := TX1) (N := 13) C.1 C.2.1 X.2.1 in_X1 X.1 X.2.2.1 hP.1 0 rfl rfl 1 (by decide) (X.2.1 _ q224) (fun _ h9 => h9) rfl hd (kk H locs ls hP hl)
set_option maxRecDepth 20000 in
theorem m_get_vs (C : jC g cc nL) (X : mX g w fr) (hd : decode cc pc = .ok (.getfield 16, 3)) (kk : J g (mP w F A) (pc + 3) L (.ref (xq w 2) :: st)) : J g (mP w F A) pc L (.ref (xh w) :: st) := by
  obtain ⟨p, l, e, R, s, m, args, below, meth, c, Q, cells, slots⟩ := g
  obtain ⟨D, d, h, q, A0, H0⟩ := w
  intro H locs ls hP hl
  exact va_get (D := D) (ci := 1) (v := .ref (q 2)) (C := RX1) (T := TX1) (N := 13) C.1 C.2.1 X.2.1 in_X1 X.1 X.2.2.1 hP.1 0 rfl rfl 2 (by decide) (X.2.1 _ q225) (fun _ h9 => h9) rfl hd (kk H locs ls hP hl)
set_option maxRecDepth 20000 in
theorem m_get_ws (C : jC g cc nL) (X : mX g w fr) (hd : decode cc pc = .ok (.getfield 19, 3)) (kk : J g (mP w F A) (pc + 3) L (.ref (xq w 3) :: st)) : J g (mP w F A) pc L (.ref (xh w) :: st) := by
  obtain ⟨p, l, e, R, s, m, args, below, meth, c, Q, cells, slots⟩ := g
  obtain ⟨D, d, h, q, A0, H0⟩ := w
  intro H locs ls hP hl
  exact va_get (D := D) (ci := 1) (v := .ref (q 3)) (C := RX1) (T := TX1) (N := 13) C.1 C.2.1 X.2.1 in_X1 X.1 X.2.2.1 hP.1 0 rfl rfl 3 (by decide) (X.2.1 _ q226) (fun _ h9 => h9) rfl hd (kk H locs ls hP hl)
set_option maxRecDepth 20000 in
theorem m_get_ends (C : jC g cc nL) (X : mX g w fr) (hd : decode cc pc = .ok (.getfield 22, 3)) (kk : J g (mP w F A) (pc + 3) L (.ref (xq w 4) :: st)) : J g (mP w F A) pc L (.ref (xh w) :: st) := by
  obtain ⟨p, l, e, R, s, m, args, below, meth, c, Q, cells, slots⟩ := g
  obtain ⟨D, d, h, q, A0, H0⟩ := w
  intro H locs ls hP hl
  exact va_get (D := D) (ci := 1) (v := .ref (q 4)) (C := RX1) (T := TX1) (N := 13) C.1 C.2.1 X.2.1 in_X1 X.1 X.2.2.1 hP.1 0 rfl rfl 4 (by decide) (X.2.1 _ q227) (fun _ h9 => h9) rfl hd (kk H locs ls hP hl)
set_option maxRecDepth 20000 in
theorem m_get_tests (C : jC g cc nL) (X : mX g w fr) (hd : decode cc pc = .ok (.getfield 25, 3)) (kk : J g (mP w F A) (pc + 3) L (.ref (xq w 5) :: st)) : J g (mP w F A) pc L (.ref (xh w) :: st) := by
  obtain ⟨p, l, e, R, s, m, args, below, meth, c, Q, cells, slots⟩ := g
  obtain ⟨D, d, h, q, A0, H0⟩ := w
  intro H locs ls hP hl
  exact va_get (D := D) (ci := 1) (v := .ref (q 5)) (C := RX1) (T := TX1) (N := 13) C.1 C.2.1 X.2.1 in_X1 X.1 X.2.2.1 hP.1 0 rfl rfl 5 (by decide) (X.2.1 _ q228) (fun _ h9 => h9) rfl hd (kk H locs ls hP hl)
set_option maxRecDepth 20000 in
theorem m_get_thens (C : jC g cc nL) (X : mX g w fr) (hd : decode cc pc = .ok (.getfield 28, 3)) (kk : J g (mP w F A) (pc + 3) L (.ref (xq w 6) :: st)) : J g (mP w F A) pc L (.ref (xh w) :: st) := by
  obtain ⟨p, l, e, R, s, m, args, below, meth, c, Q, cells, slots⟩ := g
  obtain ⟨D, d, h, q, A0, H0⟩ := w
  intro H locs ls hP hl
  exact va_get (D := D) (ci := 1) (v := .ref (q 6)) (C := RX1) (T := TX1) (N := 13) C.1 C.2.1 X.2.1 in_X1 X.1 X.2.2.1 hP.1 0 rfl rfl 6 (by decide) (X.2.1 _ q229) (fun _ h9 => h9) rfl hd (kk H locs ls hP hl)
set_option maxRecDepth 20000 in
theorem m_get_elses (C : jC g cc nL) (X : mX g w fr) (hd : decode cc pc = .ok (.getfield 31, 3)) (kk : J g (mP w F A) (pc + 3) L (.ref (xq w 7) :: st)) : J g (mP w F A) pc L (.ref (xh w) :: st) := by
  obtain ⟨p, l, e, R, s, m, args, below, meth, c, Q, cells, slots⟩ := g
  obtain ⟨D, d, h, q, A0, H0⟩ := w
  intro H locs ls hP hl
  exact va_get (D := D) (ci := 1) (v := .ref (q 7)) (C := RX1) (T := TX1) (N := 13) C.1 C.2.1 X.2.1 in_X1 X.1 X.2.2.1 hP.1 0 rfl rfl 7 (by decide) (X.2.1 _ q230) (fun _ h9 => h9) rfl hd (kk H locs ls hP hl)
set_option maxRecDepth 20000 in
theorem m_get_vars (C : jC g cc nL) (X : mX g w fr) (hd : decode cc pc = .ok (.getfield 34, 3)) (kk : J g (mP w F A) (pc + 3) L (.ref (xq w 8) :: st)) : J g (mP w F A) pc L (.ref (xh w) :: st) := by
  obtain ⟨p, l, e, R, s, m, args, below, meth, c, Q, cells, slots⟩ := g
  obtain ⟨D, d, h, q, A0, H0⟩ := w
  intro H locs ls hP hl
  exact va_get (D := D) (ci := 1) (v := .ref (q 8)) (C := RX1) (T := TX1) (N := 13) C.1 C.2.1 X.2.1 in_X1 X.1 X.2.2.1 hP.1 0 rfl rfl 8 (by decide) (X.2.1 _ q231) (fun _ h9 => h9) rfl hd (kk H locs ls hP hl)
set_option maxRecDepth 20000 in
theorem m_get_outputs (C : jC g cc nL) (X : mX g w fr) (hd : decode cc pc = .ok (.getfield 54, 3)) (kk : J g (mP w F A) (pc + 3) L (.int (F 9) :: st)) : J g (mP w F A) pc L (.ref (xh w) :: st) := by
  obtain ⟨p, l, e, R, s, m, args, below, meth, c, Q, cells, slots⟩ := g
  obtain ⟨D, d, h, q, A0, H0⟩ := w
  intro H locs ls hP hl
  exact va_get (D := D) (ci := 1) (v := .int (F 9)) (C := RX1) (T := TX1) (N := 13) C.1 C.2.1 X.2.1 in_X1 X.1 X.2.2.1 hP.1 0 rfl rfl 9 (by decide) (X.2.1 _ q232) (fun _ h9 => h9) rfl hd (kk H locs ls hP hl)
set_option maxRecDepth 20000 in
theorem m_put_outputs {v : Int32} {F1 : jF} (C : jC g cc nL) (X : mX g w fr) (hd : decode cc pc = .ok (.putfield 54, 3)) (hF : upd F 9 v = F1) (kk : J g (mP w F1 A) (pc + 3) L st) : J g (mP w F A) pc L (.int v :: .ref (xh w) :: st) := by
  obtain ⟨p, l, e, R, s, m, args, below, meth, c, Q, cells, slots⟩ := g
  obtain ⟨D, d, h, q, A0, H0⟩ := w
  intro H locs ls hP hl
  subst hF
  exact va_put (D := D) (ci := 1) (v := .int v) (ty := .int) (C := RX1) (T := TX1) (N := 13) C.1 C.2.1 X.2.1 in_X1 tyX1 tyX1_ok nmX1 X.1 X.2.2.1 hP.1 hP.2.1 hP.2.2 0 rfl rfl 9 (by decide) (X.2.1 _ q232) (fun _ h9 => h9) rfl (by decide +kernel) rfl rfl (Nat.le_of_ble_eq_true rfl) hd (fun H1 locs1 hP1 hD1 hS1 => kk H1 locs1 ls ⟨hP1, hD1, hS1⟩ hl)
set_option maxRecDepth 20000 in
theorem m_get_recent (C : jC g cc nL) (X : mX g w fr) (hd : decode cc pc = .ok (.getfield 37, 3)) (kk : J g (mP w F A) (pc + 3) L (.ref (xq w 10) :: st)) : J g (mP w F A) pc L (.ref (xh w) :: st) := by
  obtain ⟨p, l, e, R, s, m, args, below, meth, c, Q, cells, slots⟩ := g
  obtain ⟨D, d, h, q, A0, H0⟩ := w
  intro H locs ls hP hl
  exact va_get (D := D) (ci := 1) (v := .ref (q 10)) (C := RX1) (T := TX1) (N := 13) C.1 C.2.1 X.2.1 in_X1 X.1 X.2.2.1 hP.1 0 rfl rfl 10 (by decide) (X.2.1 _ q233) (fun _ h9 => h9) rfl hd (kk H locs ls hP hl)
set_option maxRecDepth 20000 in
theorem m_get_visits (C : jC g cc nL) (X : mX g w fr) (hd : decode cc pc = .ok (.getfield 40, 3)) (kk : J g (mP w F A) (pc + 3) L (.ref (xq w 11) :: st)) : J g (mP w F A) pc L (.ref (xh w) :: st) := by
  obtain ⟨p, l, e, R, s, m, args, below, meth, c, Q, cells, slots⟩ := g
  obtain ⟨D, d, h, q, A0, H0⟩ := w
  intro H locs ls hP hl
  exact va_get (D := D) (ci := 1) (v := .ref (q 11)) (C := RX1) (T := TX1) (N := 13) C.1 C.2.1 X.2.1 in_X1 X.1 X.2.2.1 hP.1 0 rfl rfl 11 (by decide) (X.2.1 _ q234) (fun _ h9 => h9) rfl hd (kk H locs ls hP hl)
set_option maxRecDepth 20000 in
theorem m_get_last (C : jC g cc nL) (X : mX g w fr) (hd : decode cc pc = .ok (.getfield 43, 3)) (kk : J g (mP w F A) (pc + 3) L (.int (F 12) :: st)) : J g (mP w F A) pc L (.ref (xh w) :: st) := by
  obtain ⟨p, l, e, R, s, m, args, below, meth, c, Q, cells, slots⟩ := g
  obtain ⟨D, d, h, q, A0, H0⟩ := w
  intro H locs ls hP hl
  exact va_get (D := D) (ci := 1) (v := .int (F 12)) (C := RX1) (T := TX1) (N := 13) C.1 C.2.1 X.2.1 in_X1 X.1 X.2.2.1 hP.1 0 rfl rfl 12 (by decide) (X.2.1 _ q235) (fun _ h9 => h9) rfl hd (kk H locs ls hP hl)
set_option maxRecDepth 20000 in
theorem m_put_last {v : Int32} {F1 : jF} (C : jC g cc nL) (X : mX g w fr) (hd : decode cc pc = .ok (.putfield 43, 3)) (hF : upd F 12 v = F1) (kk : J g (mP w F1 A) (pc + 3) L st) : J g (mP w F A) pc L (.int v :: .ref (xh w) :: st) := by
  obtain ⟨p, l, e, R, s, m, args, below, meth, c, Q, cells, slots⟩ := g
  obtain ⟨D, d, h, q, A0, H0⟩ := w
  intro H locs ls hP hl
  subst hF
  exact va_put (D := D) (ci := 1) (v := .int v) (ty := .int) (C := RX1) (T := TX1) (N := 13) C.1 C.2.1 X.2.1 in_X1 tyX1 tyX1_ok nmX1 X.1 X.2.2.1 hP.1 hP.2.1 hP.2.2 0 rfl rfl 12 (by decide) (X.2.1 _ q235) (fun _ h9 => h9) rfl (by decide +kernel) rfl rfl (Nat.le_of_ble_eq_true rfl) hd (fun H1 locs1 hP1 hD1 hS1 => kk H1 locs1 ls ⟨hP1, hD1, hS1⟩ hl)
theorem m_ald_counts {i v : Int32} (j : Nat) (C : jC g cc nL) (X : mX g w fr) (hd : decode cc pc = .ok (.iaload, 1)) (hi : i = nI j) (hj : j < 10) (hv : A 0 j = v) (kk : J g (mP w F A) (pc + 1) L (.int v :: st)) : J g (mP w F A) pc L (.int i :: .ref (xq w 0) :: st) := by
  obtain ⟨p, l, e, R, s, m, args, below, meth, c, Q, cells, slots⟩ := g
  obtain ⟨D, d, h, q, A0, H0⟩ := w
  intro H locs ls hP hl
  subst hi
  subst hv
  refine va_iald C.1 C.2.1 X.2.2.1 hP.1 1 0 rfl rfl (vp_in_nI hj (by decide)) hd ?_
  rw [nI_clamp (by omega)]
  exact kk H locs ls hP hl
theorem m_ast_counts {i v : Int32} {A1 : jA} (j : Nat) (C : jC g cc nL) (X : mX g w fr) (hd : decode cc pc = .ok (.iastore, 1)) (hi : i = nI j) (hj : j < 10) (hA : va_up A 0 (upd (A 0) j v) = A1) (kk : J g (mP w F A1) (pc + 1) L st) : J g (mP w F A) pc L (.int v :: .int i :: .ref (xq w 0) :: st) := by
  obtain ⟨p, l, e, R, s, m, args, below, meth, c, Q, cells, slots⟩ := g
  obtain ⟨D, d, h, q, A0, H0⟩ := w
  intro H locs ls hP hl
  subst hi
  subst hA
  refine va_iast C.1 C.2.1 X.2.2.1 hP.1 hP.2.1 hP.2.2 1 0 rfl rfl (vp_in_nI hj (by decide)) hd (fun H1 locs1 hP1 hD1 hS1 => ?_)
  rw [nI_clamp (by omega)] at hP1 hD1
  exact kk H1 locs1 ls ⟨hP1, hD1, hS1⟩ hl
theorem m_ald_ops {i v : Int32} (j : Nat) (C : jC g cc nL) (X : mX g w fr) (hd : decode cc pc = .ok (.iaload, 1)) (hi : i = nI j) (hj : j < 30) (hv : A 1 j = v) (kk : J g (mP w F A) (pc + 1) L (.int v :: st)) : J g (mP w F A) pc L (.int i :: .ref (xq w 1) :: st) := by
  obtain ⟨p, l, e, R, s, m, args, below, meth, c, Q, cells, slots⟩ := g
  obtain ⟨D, d, h, q, A0, H0⟩ := w
  intro H locs ls hP hl
  subst hi
  subst hv
  refine va_iald C.1 C.2.1 X.2.2.1 hP.1 2 0 rfl rfl (vp_in_nI hj (by decide)) hd ?_
  rw [nI_clamp (by omega)]
  exact kk H locs ls hP hl
theorem m_ast_ops {i v : Int32} {A1 : jA} (j : Nat) (C : jC g cc nL) (X : mX g w fr) (hd : decode cc pc = .ok (.iastore, 1)) (hi : i = nI j) (hj : j < 30) (hA : va_up A 1 (upd (A 1) j v) = A1) (kk : J g (mP w F A1) (pc + 1) L st) : J g (mP w F A) pc L (.int v :: .int i :: .ref (xq w 1) :: st) := by
  obtain ⟨p, l, e, R, s, m, args, below, meth, c, Q, cells, slots⟩ := g
  obtain ⟨D, d, h, q, A0, H0⟩ := w
  intro H locs ls hP hl
  subst hi
  subst hA
  refine va_iast C.1 C.2.1 X.2.2.1 hP.1 hP.2.1 hP.2.2 2 0 rfl rfl (vp_in_nI hj (by decide)) hd (fun H1 locs1 hP1 hD1 hS1 => ?_)
  rw [nI_clamp (by omega)] at hP1 hD1
  exact kk H1 locs1 ls ⟨hP1, hD1, hS1⟩ hl
theorem m_ald_vs {i v : Int32} (j : Nat) (C : jC g cc nL) (X : mX g w fr) (hd : decode cc pc = .ok (.iaload, 1)) (hi : i = nI j) (hj : j < 30) (hv : A 2 j = v) (kk : J g (mP w F A) (pc + 1) L (.int v :: st)) : J g (mP w F A) pc L (.int i :: .ref (xq w 2) :: st) := by
  obtain ⟨p, l, e, R, s, m, args, below, meth, c, Q, cells, slots⟩ := g
  obtain ⟨D, d, h, q, A0, H0⟩ := w
  intro H locs ls hP hl
  subst hi
  subst hv
  refine va_iald C.1 C.2.1 X.2.2.1 hP.1 3 0 rfl rfl (vp_in_nI hj (by decide)) hd ?_
  rw [nI_clamp (by omega)]
  exact kk H locs ls hP hl
theorem m_ast_vs {i v : Int32} {A1 : jA} (j : Nat) (C : jC g cc nL) (X : mX g w fr) (hd : decode cc pc = .ok (.iastore, 1)) (hi : i = nI j) (hj : j < 30) (hA : va_up A 2 (upd (A 2) j v) = A1) (kk : J g (mP w F A1) (pc + 1) L st) : J g (mP w F A) pc L (.int v :: .int i :: .ref (xq w 2) :: st) := by
  obtain ⟨p, l, e, R, s, m, args, below, meth, c, Q, cells, slots⟩ := g
  obtain ⟨D, d, h, q, A0, H0⟩ := w
  intro H locs ls hP hl
  subst hi
  subst hA
  refine va_iast C.1 C.2.1 X.2.2.1 hP.1 hP.2.1 hP.2.2 3 0 rfl rfl (vp_in_nI hj (by decide)) hd (fun H1 locs1 hP1 hD1 hS1 => ?_)
  rw [nI_clamp (by omega)] at hP1 hD1
  exact kk H1 locs1 ls ⟨hP1, hD1, hS1⟩ hl
theorem m_ald_ws {i v : Int32} (j : Nat) (C : jC g cc nL) (X : mX g w fr) (hd : decode cc pc = .ok (.iaload, 1)) (hi : i = nI j) (hj : j < 30) (hv : A 3 j = v) (kk : J g (mP w F A) (pc + 1) L (.int v :: st)) : J g (mP w F A) pc L (.int i :: .ref (xq w 3) :: st) := by
  obtain ⟨p, l, e, R, s, m, args, below, meth, c, Q, cells, slots⟩ := g
  obtain ⟨D, d, h, q, A0, H0⟩ := w
  intro H locs ls hP hl
  subst hi
  subst hv
  refine va_iald C.1 C.2.1 X.2.2.1 hP.1 4 0 rfl rfl (vp_in_nI hj (by decide)) hd ?_
  rw [nI_clamp (by omega)]
  exact kk H locs ls hP hl
theorem m_ast_ws {i v : Int32} {A1 : jA} (j : Nat) (C : jC g cc nL) (X : mX g w fr) (hd : decode cc pc = .ok (.iastore, 1)) (hi : i = nI j) (hj : j < 30) (hA : va_up A 3 (upd (A 3) j v) = A1) (kk : J g (mP w F A1) (pc + 1) L st) : J g (mP w F A) pc L (.int v :: .int i :: .ref (xq w 3) :: st) := by
  obtain ⟨p, l, e, R, s, m, args, below, meth, c, Q, cells, slots⟩ := g
  obtain ⟨D, d, h, q, A0, H0⟩ := w
  intro H locs ls hP hl
  subst hi
  subst hA
  refine va_iast C.1 C.2.1 X.2.2.1 hP.1 hP.2.1 hP.2.2 4 0 rfl rfl (vp_in_nI hj (by decide)) hd (fun H1 locs1 hP1 hD1 hS1 => ?_)
  rw [nI_clamp (by omega)] at hP1 hD1
  exact kk H1 locs1 ls ⟨hP1, hD1, hS1⟩ hl
theorem m_ald_ends {i v : Int32} (j : Nat) (C : jC g cc nL) (X : mX g w fr) (hd : decode cc pc = .ok (.iaload, 1)) (hi : i = nI j) (hj : j < 10) (hv : A 4 j = v) (kk : J g (mP w F A) (pc + 1) L (.int v :: st)) : J g (mP w F A) pc L (.int i :: .ref (xq w 4) :: st) := by
  obtain ⟨p, l, e, R, s, m, args, below, meth, c, Q, cells, slots⟩ := g
  obtain ⟨D, d, h, q, A0, H0⟩ := w
  intro H locs ls hP hl
  subst hi
  subst hv
  refine va_iald C.1 C.2.1 X.2.2.1 hP.1 5 0 rfl rfl (vp_in_nI hj (by decide)) hd ?_
  rw [nI_clamp (by omega)]
  exact kk H locs ls hP hl
theorem m_ast_ends {i v : Int32} {A1 : jA} (j : Nat) (C : jC g cc nL) (X : mX g w fr) (hd : decode cc pc = .ok (.iastore, 1)) (hi : i = nI j) (hj : j < 10) (hA : va_up A 4 (upd (A 4) j v) = A1) (kk : J g (mP w F A1) (pc + 1) L st) : J g (mP w F A) pc L (.int v :: .int i :: .ref (xq w 4) :: st) := by
  obtain ⟨p, l, e, R, s, m, args, below, meth, c, Q, cells, slots⟩ := g
  obtain ⟨D, d, h, q, A0, H0⟩ := w
  intro H locs ls hP hl
  subst hi
  subst hA
  refine va_iast C.1 C.2.1 X.2.2.1 hP.1 hP.2.1 hP.2.2 5 0 rfl rfl (vp_in_nI hj (by decide)) hd (fun H1 locs1 hP1 hD1 hS1 => ?_)
  rw [nI_clamp (by omega)] at hP1 hD1
  exact kk H1 locs1 ls ⟨hP1, hD1, hS1⟩ hl
theorem m_ald_tests {i v : Int32} (j : Nat) (C : jC g cc nL) (X : mX g w fr) (hd : decode cc pc = .ok (.iaload, 1)) (hi : i = nI j) (hj : j < 10) (hv : A 5 j = v) (kk : J g (mP w F A) (pc + 1) L (.int v :: st)) : J g (mP w F A) pc L (.int i :: .ref (xq w 5) :: st) := by
  obtain ⟨p, l, e, R, s, m, args, below, meth, c, Q, cells, slots⟩ := g
  obtain ⟨D, d, h, q, A0, H0⟩ := w
  intro H locs ls hP hl
  subst hi
  subst hv
  refine va_iald C.1 C.2.1 X.2.2.1 hP.1 6 0 rfl rfl (vp_in_nI hj (by decide)) hd ?_
  rw [nI_clamp (by omega)]
  exact kk H locs ls hP hl
theorem m_ast_tests {i v : Int32} {A1 : jA} (j : Nat) (C : jC g cc nL) (X : mX g w fr) (hd : decode cc pc = .ok (.iastore, 1)) (hi : i = nI j) (hj : j < 10) (hA : va_up A 5 (upd (A 5) j v) = A1) (kk : J g (mP w F A1) (pc + 1) L st) : J g (mP w F A) pc L (.int v :: .int i :: .ref (xq w 5) :: st) := by
  obtain ⟨p, l, e, R, s, m, args, below, meth, c, Q, cells, slots⟩ := g
  obtain ⟨D, d, h, q, A0, H0⟩ := w
  intro H locs ls hP hl
  subst hi
  subst hA
  refine va_iast C.1 C.2.1 X.2.2.1 hP.1 hP.2.1 hP.2.2 6 0 rfl rfl (vp_in_nI hj (by decide)) hd (fun H1 locs1 hP1 hD1 hS1 => ?_)
  rw [nI_clamp (by omega)] at hP1 hD1
  exact kk H1 locs1 ls ⟨hP1, hD1, hS1⟩ hl
theorem m_ald_thens {i v : Int32} (j : Nat) (C : jC g cc nL) (X : mX g w fr) (hd : decode cc pc = .ok (.iaload, 1)) (hi : i = nI j) (hj : j < 10) (hv : A 6 j = v) (kk : J g (mP w F A) (pc + 1) L (.int v :: st)) : J g (mP w F A) pc L (.int i :: .ref (xq w 6) :: st) := by
  obtain ⟨p, l, e, R, s, m, args, below, meth, c, Q, cells, slots⟩ := g
  obtain ⟨D, d, h, q, A0, H0⟩ := w
  intro H locs ls hP hl
  subst hi
  subst hv
  refine va_iald C.1 C.2.1 X.2.2.1 hP.1 7 0 rfl rfl (vp_in_nI hj (by decide)) hd ?_
  rw [nI_clamp (by omega)]
  exact kk H locs ls hP hl
theorem m_ast_thens {i v : Int32} {A1 : jA} (j : Nat) (C : jC g cc nL) (X : mX g w fr) (hd : decode cc pc = .ok (.iastore, 1)) (hi : i = nI j) (hj : j < 10) (hA : va_up A 6 (upd (A 6) j v) = A1) (kk : J g (mP w F A1) (pc + 1) L st) : J g (mP w F A) pc L (.int v :: .int i :: .ref (xq w 6) :: st) := by
  obtain ⟨p, l, e, R, s, m, args, below, meth, c, Q, cells, slots⟩ := g
  obtain ⟨D, d, h, q, A0, H0⟩ := w
  intro H locs ls hP hl
  subst hi
  subst hA
  refine va_iast C.1 C.2.1 X.2.2.1 hP.1 hP.2.1 hP.2.2 7 0 rfl rfl (vp_in_nI hj (by decide)) hd (fun H1 locs1 hP1 hD1 hS1 => ?_)
  rw [nI_clamp (by omega)] at hP1 hD1
  exact kk H1 locs1 ls ⟨hP1, hD1, hS1⟩ hl
theorem m_ald_elses {i v : Int32} (j : Nat) (C : jC g cc nL) (X : mX g w fr) (hd : decode cc pc = .ok (.iaload, 1)) (hi : i = nI j) (hj : j < 10) (hv : A 7 j = v) (kk : J g (mP w F A) (pc + 1) L (.int v :: st)) : J g (mP w F A) pc L (.int i :: .ref (xq w 7) :: st) := by
  obtain ⟨p, l, e, R, s, m, args, below, meth, c, Q, cells, slots⟩ := g
  obtain ⟨D, d, h, q, A0, H0⟩ := w
  intro H locs ls hP hl
  subst hi
  subst hv
  refine va_iald C.1 C.2.1 X.2.2.1 hP.1 8 0 rfl rfl (vp_in_nI hj (by decide)) hd ?_
  rw [nI_clamp (by omega)]
  exact kk H locs ls hP hl
theorem m_ast_elses {i v : Int32} {A1 : jA} (j : Nat) (C : jC g cc nL) (X : mX g w fr) (hd : decode cc pc = .ok (.iastore, 1)) (hi : i = nI j) (hj : j < 10) (hA : va_up A 7 (upd (A 7) j v) = A1) (kk : J g (mP w F A1) (pc + 1) L st) : J g (mP w F A) pc L (.int v :: .int i :: .ref (xq w 7) :: st) := by
  obtain ⟨p, l, e, R, s, m, args, below, meth, c, Q, cells, slots⟩ := g
  obtain ⟨D, d, h, q, A0, H0⟩ := w
  intro H locs ls hP hl
  subst hi
  subst hA
  refine va_iast C.1 C.2.1 X.2.2.1 hP.1 hP.2.1 hP.2.2 8 0 rfl rfl (vp_in_nI hj (by decide)) hd (fun H1 locs1 hP1 hD1 hS1 => ?_)
  rw [nI_clamp (by omega)] at hP1 hD1
  exact kk H1 locs1 ls ⟨hP1, hD1, hS1⟩ hl
theorem m_ald_vars {i v : Int32} (j : Nat) (C : jC g cc nL) (X : mX g w fr) (hd : decode cc pc = .ok (.iaload, 1)) (hi : i = nI j) (hj : j < 4) (hv : A 8 j = v) (kk : J g (mP w F A) (pc + 1) L (.int v :: st)) : J g (mP w F A) pc L (.int i :: .ref (xq w 8) :: st) := by
  obtain ⟨p, l, e, R, s, m, args, below, meth, c, Q, cells, slots⟩ := g
  obtain ⟨D, d, h, q, A0, H0⟩ := w
  intro H locs ls hP hl
  subst hi
  subst hv
  refine va_iald C.1 C.2.1 X.2.2.1 hP.1 9 0 rfl rfl (vp_in_nI hj (by decide)) hd ?_
  rw [nI_clamp (by omega)]
  exact kk H locs ls hP hl
theorem m_ast_vars {i v : Int32} {A1 : jA} (j : Nat) (C : jC g cc nL) (X : mX g w fr) (hd : decode cc pc = .ok (.iastore, 1)) (hi : i = nI j) (hj : j < 4) (hA : va_up A 8 (upd (A 8) j v) = A1) (kk : J g (mP w F A1) (pc + 1) L st) : J g (mP w F A) pc L (.int v :: .int i :: .ref (xq w 8) :: st) := by
  obtain ⟨p, l, e, R, s, m, args, below, meth, c, Q, cells, slots⟩ := g
  obtain ⟨D, d, h, q, A0, H0⟩ := w
  intro H locs ls hP hl
  subst hi
  subst hA
  refine va_iast C.1 C.2.1 X.2.2.1 hP.1 hP.2.1 hP.2.2 9 0 rfl rfl (vp_in_nI hj (by decide)) hd (fun H1 locs1 hP1 hD1 hS1 => ?_)
  rw [nI_clamp (by omega)] at hP1 hD1
  exact kk H1 locs1 ls ⟨hP1, hD1, hS1⟩ hl
theorem m_ald_recent {i v : Int32} (j : Nat) (C : jC g cc nL) (X : mX g w fr) (hd : decode cc pc = .ok (.iaload, 1)) (hi : i = nI j) (hj : j < 16) (hv : A 10 j = v) (kk : J g (mP w F A) (pc + 1) L (.int v :: st)) : J g (mP w F A) pc L (.int i :: .ref (xq w 10) :: st) := by
  obtain ⟨p, l, e, R, s, m, args, below, meth, c, Q, cells, slots⟩ := g
  obtain ⟨D, d, h, q, A0, H0⟩ := w
  intro H locs ls hP hl
  subst hi
  subst hv
  refine va_iald C.1 C.2.1 X.2.2.1 hP.1 10 0 rfl rfl (vp_in_nI hj (by decide)) hd ?_
  rw [nI_clamp (by omega)]
  exact kk H locs ls hP hl
theorem m_ast_recent {i v : Int32} {A1 : jA} (j : Nat) (C : jC g cc nL) (X : mX g w fr) (hd : decode cc pc = .ok (.iastore, 1)) (hi : i = nI j) (hj : j < 16) (hA : va_up A 10 (upd (A 10) j v) = A1) (kk : J g (mP w F A1) (pc + 1) L st) : J g (mP w F A) pc L (.int v :: .int i :: .ref (xq w 10) :: st) := by
  obtain ⟨p, l, e, R, s, m, args, below, meth, c, Q, cells, slots⟩ := g
  obtain ⟨D, d, h, q, A0, H0⟩ := w
  intro H locs ls hP hl
  subst hi
  subst hA
  refine va_iast C.1 C.2.1 X.2.2.1 hP.1 hP.2.1 hP.2.2 10 0 rfl rfl (vp_in_nI hj (by decide)) hd (fun H1 locs1 hP1 hD1 hS1 => ?_)
  rw [nI_clamp (by omega)] at hP1 hD1
  exact kk H1 locs1 ls ⟨hP1, hD1, hS1⟩ hl
theorem m_ald_visits {i v : Int32} (j : Nat) (C : jC g cc nL) (X : mX g w fr) (hd : decode cc pc = .ok (.iaload, 1)) (hi : i = nI j) (hj : j < 10) (hv : A 11 j = v) (kk : J g (mP w F A) (pc + 1) L (.int v :: st)) : J g (mP w F A) pc L (.int i :: .ref (xq w 11) :: st) := by
  obtain ⟨p, l, e, R, s, m, args, below, meth, c, Q, cells, slots⟩ := g
  obtain ⟨D, d, h, q, A0, H0⟩ := w
  intro H locs ls hP hl
  subst hi
  subst hv
  refine va_iald C.1 C.2.1 X.2.2.1 hP.1 11 0 rfl rfl (vp_in_nI hj (by decide)) hd ?_
  rw [nI_clamp (by omega)]
  exact kk H locs ls hP hl
theorem m_ast_visits {i v : Int32} {A1 : jA} (j : Nat) (C : jC g cc nL) (X : mX g w fr) (hd : decode cc pc = .ok (.iastore, 1)) (hi : i = nI j) (hj : j < 10) (hA : va_up A 11 (upd (A 11) j v) = A1) (kk : J g (mP w F A1) (pc + 1) L st) : J g (mP w F A) pc L (.int v :: .int i :: .ref (xq w 11) :: st) := by
  obtain ⟨p, l, e, R, s, m, args, below, meth, c, Q, cells, slots⟩ := g
  obtain ⟨D, d, h, q, A0, H0⟩ := w
  intro H locs ls hP hl
  subst hi
  subst hA
  refine va_iast C.1 C.2.1 X.2.2.1 hP.1 hP.2.1 hP.2.2 11 0 rfl rfl (vp_in_nI hj (by decide)) hd (fun H1 locs1 hP1 hD1 hS1 => ?_)
  rw [nI_clamp (by omega)] at hP1 hD1
  exact kk H1 locs1 ls ⟨hP1, hD1, hS1⟩ hl
end mRO
def mB (D : va_G) (d : ClassId) (h : Nat) (q : Nat → Nat) (A0 : Nat → Prop) (u : jF × jA) (t : State) : Prop := va_P D vwCl (mW h q d u.1 u.2) t.heap ∧ va_K D vwCl [(d, .int)] t ∧ va_D A0 (mW h q d u.1 u.2)
def mPre (D : va_G) (d : ClassId) (h : Nat) (q : Nat → Nat) (F : jF) (A : jA) (sz : Nat) (U : State) : Prop := U.heap.size = sz ∧ va_P D vwCl (mW h q d F A) U.heap ∧ va_K D vwCl [(d, .int)] U ∧ va_D (fun _ => True) (mW h q d F A)
/-- contract of an instance method that answers an int (or a boolean) -/
def mMi (y : MethodName) (cc : ByteArray) (nL : Nat) (rt : FieldType) (fr : Nat) (av : List Value) (F : jF) (A : jA) (post : Int32 → jF → jA → Prop) : Prop :=
  ∀ (l : Launch) (D : va_G) (d : ClassId) (h : Nat) (q : Nat → Nat) (sz : Nat), Met l y (ws_ y cc nL (some rt)) (rmN fr) (va_Pc (.ref h :: av) (mPre D d h q F A sz)) (va_Qi (fun (r : Int32) (u : jF × jA) => post r u.1 u.2) (mB D d h q (va_A (mW h q d F A) sz)) (va_A (mW h q d F A) sz)) 0 0 (va_A (mW h q d F A) sz)
/-- contract of an instance method without an answer -/
def mMv (y : MethodName) (cc : ByteArray) (nL : Nat) (fr : Nat) (av : List Value) (F : jF) (A : jA) (post : jF → jA → Prop) : Prop :=
  ∀ (l : Launch) (D : va_G) (d : ClassId) (h : Nat) (q : Nat → Nat) (sz : Nat), Met l y (ws_ y cc nL none) (rmN fr) (va_Pc (.ref h :: av) (mPre D d h q F A sz)) (va_Qv (fun (u : jF × jA) => post u.1 u.2) (mB D d h q (va_A (mW h q d F A) sz)) (va_A (mW h q d F A) sz)) 0 0 (va_A (mW h q d F A) sz)
/-- contract of a static method that answers an int (or a boolean) -/
def mSi (y : MethodName) (cc : ByteArray) (nL : Nat) (rt : FieldType) (fr : Nat) (av : List Value) (F : jF) (A : jA) (post : Int32 → jF → jA → Prop) : Prop :=
  ∀ (l : Launch) (D : va_G) (d : ClassId) (h : Nat) (q : Nat → Nat) (sz : Nat), Met l y (ws_ y cc nL (some rt)) (rmN fr) (va_Pc av (mPre D d h q F A sz)) (va_Qi (fun (r : Int32) (u : jF × jA) => post r u.1 u.2) (mB D d h q (va_A (mW h q d F A) sz)) (va_A (mW h q d F A) sz)) 0 0 (va_A (mW h q d F A) sz)
theorem mMi.intro {y : MethodName} {cc : ByteArray} {nL : Nat} {rt : FieldType} {fr : Nat} {av : List Value} {F : jF} {A : jA} {post : Int32 → jF → jA → Prop} (L0 : Nat → List (Option Value)) (hy : plainName y.cls = true) (hc : y.cls = RX1) (hL1 : ∀ h, lvs 0 (L0 h) = lv_args 0 (.ref h :: av)) (hL2 : ∀ h, (L0 h).length = nL) (hL3 : ∀ h : Nat, (lg_sl (.ref h :: av)).length ≤ nL)
    (body : ∀ (g : jG) (w : xT), jC g cc nL → mX g w fr → (∀ (pc : Nat) (L : List (Option Value)) (r : Int32) (F1 : jF) (A1 : jA), decode cc pc = .ok (.ireturn, 1) → narrow rt (.int r) = .int r → post r F1 A1 → J g (mP w F1 A1) pc L [.int r]) → J g (mP w F A) 0 (L0 (xh w)) []) : mMi y cc nL rt fr av F A post := by
  intro l D d h q sz
  refine Met.ofW (cc := cc) (maxL := nL) (ret := some rt) hy rfl ?_
  intro p e s m args below meth c s₁ B hml hv
  obtain ⟨rfl, hsz, hP, hK, hD0⟩ := hv
  have hts := atoms_spec (ws := ws_ y cc nL (some rt)) B.pre
  have hts : ∀ w ∈ lw_all, w.before _ s = true := fun w h => hts w (List.mem_cons_of_mem _ h)
  have hown : s.vm.findClass RX1 = some m.cls := by
    rw [← hc]
    exact findClass_of_methodNamed B.named
  subst hsz
  have hD := hD0.self (sz := s.heap.size)
  have hA : ∀ x : Nat, s.heap.size ≤ x → va_A (mW h q d F A) s.heap.size x := fun x hx => Or.inr hx
  rw [lg_entry_eq]
  have hl := lv_entry (.ref h :: av) (n := nL) (hL3 h)
  refine body (p, l, e, rmN fr, s, m, _, below, meth, c, _, 0, 0) (D, d, h, q, va_A (mW h q d F A) s.heap.size, s.heap) ⟨B.exec, B.bytes, hml⟩ ⟨hown, hts, hK, rfl, hA, Nat.le_refl _, Nat.le_refl _, Nat.le_refl _, Nat.le_refl _⟩ ?_ s.heap [] _ ⟨hP, hD, va_S.rf⟩ ?_
  · intro pc L r F1 A1 hd hn hp H locs ls hP1 hl1
    exact W.zret B.exec B.bytes B.returns hn (fun t ht hW => ⟨⟨r, (F1, A1), rfl, hp, by rw [ht]; exact hP1.1, va_K.moved hW.alike hK, hP1.2.1⟩, hP1.2.2.F ht⟩) hP1.2.2.2.2 hd B.notSynchronized
  · rw [hL2, show xh (D, d, h, q, va_A (mW h q d F A) s.heap.size, s.heap) = h from rfl, hL1]
    exact hl
theorem mSi.intro {y : MethodName} {cc : ByteArray} {nL : Nat} {rt : FieldType} {fr : Nat} {av : List Value} {F : jF} {A : jA} {post : Int32 → jF → jA → Prop} (L0 : List (Option Value)) (hy : plainName y.cls = true) (hc : y.cls = RX1) (hL1 : lvs 0 L0 = lv_args 0 av) (hL2 : L0.length = nL) (hL3 : (lg_sl av).length ≤ nL)
    (body : ∀ (g : jG) (w : xT), jC g cc nL → mX g w fr → (∀ (pc : Nat) (L : List (Option Value)) (r : Int32) (F1 : jF) (A1 : jA), decode cc pc = .ok (.ireturn, 1) → narrow rt (.int r) = .int r → post r F1 A1 → J g (mP w F1 A1) pc L [.int r]) → J g (mP w F A) 0 L0 []) : mSi y cc nL rt fr av F A post := by
  intro l D d h q sz
  refine Met.ofW (cc := cc) (maxL := nL) (ret := some rt) hy rfl ?_
  intro p e s m args below meth c s₁ B hml hv
  obtain ⟨rfl, hsz, hP, hK, hD0⟩ := hv
  have hts := atoms_spec (ws := ws_ y cc nL (some rt)) B.pre
  have hts : ∀ w ∈ lw_all, w.before _ s = true := fun w h => hts w (List.mem_cons_of_mem _ h)
  have hown : s.vm.findClass RX1 = some m.cls := by
    rw [← hc]
    exact findClass_of_methodNamed B.named
  subst hsz
  have hD := hD0.self (sz := s.heap.size)
  have hA : ∀ x : Nat, s.heap.size ≤ x → va_A (mW h q d F A) s.heap.size x := fun x hx => Or.inr hx
  rw [lg_entry_eq]
  have hl := lv_entry av (n := nL) hL3
  refine body (p, l, e, rmN fr, s, m, _, below, meth, c, _, 0, 0) (D, d, h, q, va_A (mW h q d F A) s.heap.size, s.heap) ⟨B.exec, B.bytes, hml⟩ ⟨hown, hts, hK, rfl, hA, Nat.le_refl _, Nat.le_refl _, Nat.le_refl _, Nat.le_refl _⟩ ?_ s.heap [] _ ⟨hP, hD, va_S.rf⟩ ?_
  · intro pc L r F1 A1 hd hn hp H locs ls hP1 hl1
    exact W.zret B.exec B.bytes B.returns hn (fun t ht hW => ⟨⟨r, (F1, A1), rfl, hp, by rw [ht]; exact hP1.1, va_K.moved hW.alike hK, hP1.2.1⟩, hP1.2.2.F ht⟩) hP1.2.2.2.2 hd B.notSynchronized
  · rw [hL2, hL1]
    exact hl
theorem mMv.intro {y : MethodName} {cc : ByteArray} {nL : Nat} {fr : Nat} {av : List Value} {F : jF} {A : jA} {post : jF → jA → Prop} (L0 : Nat → List (Option Value)) (hy : plainName y.cls = true) (hc : y.cls = RX1) (hL1 : ∀ h, lvs 0 (L0 h) = lv_args 0 (.ref h :: av)) (hL2 : ∀ h, (L0 h).length = nL) (hL3 : ∀ h : Nat, (lg_sl (.ref h :: av)).length ≤ nL)
    (body : ∀ (g : jG) (w : xT), jC g cc nL → mX g w fr → (∀ (pc : Nat) (L : List (Option Value)) (F1 : jF) (A1 : jA), decode cc pc = .ok (.return_, 1) → post F1 A1 → J g (mP w F1 A1) pc L []) → J g (mP w F A) 0 (L0 (xh w)) []) : mMv y cc nL fr av F A post := by
  intro l D d h q sz
  refine Met.ofW (cc := cc) (maxL := nL) (ret := none) hy rfl ?_
  intro p e s m args below meth c s₁ B hml hv
  obtain ⟨rfl, hsz, hP, hK, hD0⟩ := hv
  have hts := atoms_spec (ws := ws_ y cc nL none) B.pre
  have hts : ∀ w ∈ lw_all, w.before _ s = true := fun w h => hts w (List.mem_cons_of_mem _ h)
  have hown : s.vm.findClass RX1 = some m.cls := by
    rw [← hc]
    exact findClass_of_methodNamed B.named
  subst hsz
  have hD := hD0.self (sz := s.heap.size)
  have hA : ∀ x : Nat, s.heap.size ≤ x → va_A (mW h q d F A) s.heap.size x := fun x hx => Or.inr hx
  rw [lg_entry_eq]
  have hl := lv_entry (.ref h :: av) (n := nL) (hL3 h)
  refine body (p, l, e, rmN fr, s, m, _, below, meth, c, _, 0, 0) (D, d, h, q, va_A (mW h q d F A) s.heap.size, s.heap) ⟨B.exec, B.bytes, hml⟩ ⟨hown, hts, hK, rfl, hA, Nat.le_refl _, Nat.le_refl _, Nat.le_refl _, Nat.le_refl _⟩ ?_ s.heap [] _ ⟨hP, hD, va_S.rf⟩ ?_
  · intro pc L F1 A1 hd hp H locs ls hP1 hl1
    exact W.vret B.exec B.bytes B.returns (fun t ht hW => ⟨⟨(F1, A1), rfl, hp, by rw [ht]; exact hP1.1, va_K.moved hW.alike hK, hP1.2.1⟩, hP1.2.2.F ht⟩) hP1.2.2.2.2 hd B.notSynchronized
  · rw [hL2, show xh (D, d, h, q, va_A (mW h q d F A) s.heap.size, s.heap) = h from rfl, hL1]
    exact hl
section mCA
variable {g : jG} {w : xT} {cc cc1 : ByteArray} {nL fr pc idx nL1 fr1 n : Nat} {L : List (Option Value)} {st rest av : List Value} {F : jF} {A : jA} {y : MethodName} {rt : FieldType}
theorem m_calli {post : Int32 → jF → jA → Prop} (C : jC g cc nL) (X : mX g w fr) (hM : mMi y cc1 nL1 rt fr1 av F A post) (hV : GoodIn lw_all (wsV RX1 idx RX1 y (ws_ y cc1 nL1 (some rt)))) (hdd : y.cls = RX1 ∧ y.cls ≠ "java/lang/invoke/MethodHandle" ∧ y.cls ≠ "java/lang/invoke/VarHandle" ∧ (parseMethodDescriptor y.desc).map (fun d => d.parameters.length) = some n) (hn : av.length = n) (hfr : fr1 + 1 ≤ fr) (hm : nL1 ≤ 11) (hd : decode cc pc = .ok (.invokevirtual idx, 3)) (hst : st = av.reverse ++ .ref (xh w) :: rest) (hsum : (rest.map fun v => v.category).sum ≤ 8) (hL : L.length = nL) (kk : ∀ (r : Int32) (F1 : jF) (A1 : jA), post r F1 A1 → J g (mP w F1 A1) (pc + 3) L (.int r :: rest)) : J g (mP w F A) pc L st := by
  obtain ⟨p, l, e, R, s, m, args, below, meth, c, Q, cells, slots⟩ := g
  obtain ⟨D, d, h, q, A0, H0⟩ := w
  intro H locs ls hPP hl
  obtain ⟨hown, hts, hK, hH0, hA, hRf, hRl, hRc, hRs⟩ := X
  obtain ⟨hP, hD, hS⟩ := hPP
  subst hH0
  subst hst
  have hFc : ∀ x : Nat, va_A (mW h q d F A) H.size x → A0 x := fun x hx => hx.elim (fun ⟨k, e, hk⟩ => hD.2 k (x, e) hk) (fun hx => hA x (Nat.le_trans hS.1 hx))
  refine va_calli (va_runV (As := av) (rest := rest) ⟨C.1, C.2.1, C.2.2, hown, hts⟩ (hM l D d h q H.size) (cwV n hts hV rfl rfl rfl hdd ⟨Nat.le_trans hfr hRf, by simp only [rmN]; omega⟩) ⟨fun a U g mk q => by obtain ⟨q0, q1, qP, qK, qD⟩ := q; exact ⟨q0, q1, qP, va_K.moved (u := U) (U := U.calling g mk a) (Vm.Alike.refl U.vm) qK, qD⟩, va_recv hK hP (ci := 1) (q0 := 0) rfl rfl, fun U hU hW => ⟨rfl, by rw [hU], by rw [hU]; exact hP, va_K.moved hW.alike hK, hD.weaken (fun _ _ _ _ => trivial)⟩⟩ rfl hn (hl.1.trans hL) rfl (lv_room hsum) hd ⟨hRc, hRs⟩) hS (fun q _ h => hFc q h) hFc (fun r u t H1 locs1 ht hvm hw hB hz hk hS1 => ?_)
  obtain ⟨F1, A1⟩ := u
  obtain ⟨hP1, hK1, hD1⟩ := hB
  rw [ht] at hP1
  exact kk r F1 A1 hw H1 locs1 ls ⟨hP1, hD1.weaken (fun _ q _ hx => hFc _ hx), hS1⟩ hl
theorem m_callv {post : jF → jA → Prop} (C : jC g cc nL) (X : mX g w fr) (hM : mMv y cc1 nL1 fr1 av F A post) (hV : GoodIn lw_all (wsV RX1 idx RX1 y (ws_ y cc1 nL1 none))) (hdd : y.cls = RX1 ∧ y.cls ≠ "java/lang/invoke/MethodHandle" ∧ y.cls ≠ "java/lang/invoke/VarHandle" ∧ (parseMethodDescriptor y.desc).map (fun d => d.parameters.length) = some n) (hn : av.length = n) (hfr : fr1 + 1 ≤ fr) (hm : nL1 ≤ 11) (hd : decode cc pc = .ok (.invokevirtual idx, 3)) (hst : st = av.reverse ++ .ref (xh w) :: rest) (hsum : (rest.map fun v => v.category).sum ≤ 8) (hL : L.length = nL) (kk : ∀ (F1 : jF) (A1 : jA), post F1 A1 → J g (mP w F1 A1) (pc + 3) L rest) : J g (mP w F A) pc L st := by
  obtain ⟨p, l, e, R, s, m, args, below, meth, c, Q, cells, slots⟩ := g
  obtain ⟨D, d, h, q, A0, H0⟩ := w
  intro H locs ls hPP hl
  obtain ⟨hown, hts, hK, hH0, hA, hRf, hRl, hRc, hRs⟩ := X
  obtain ⟨hP, hD, hS⟩ := hPP
  subst hH0
  subst hst
  have hFc : ∀ x : Nat, va_A (mW h q d F A) H.size x → A0 x := fun x hx => hx.elim (fun ⟨k, e, hk⟩ => hD.2 k (x, e) hk) (fun hx => hA x (Nat.le_trans hS.1 hx))
  refine va_callv (va_runV (As := av) (rest := rest) ⟨C.1, C.2.1, C.2.2, hown, hts⟩ (hM l D d h q H.size) (cwV n hts hV rfl rfl rfl hdd ⟨Nat.le_trans hfr hRf, by simp only [rmN]; omega⟩) ⟨fun a U g mk q => by obtain ⟨q0, q1, qP, qK, qD⟩ := q; exact ⟨q0, q1, qP, va_K.moved (u := U) (U := U.calling g mk a) (Vm.Alike.refl U.vm) qK, qD⟩, va_recv hK hP (ci := 1) (q0 := 0) rfl rfl, fun U hU hW => ⟨rfl, by rw [hU], by rw [hU]; exact hP, va_K.moved hW.alike hK, hD.weaken (fun _ _ _ _ => trivial)⟩⟩ rfl hn (hl.1.trans hL) rfl (lv_room hsum) hd ⟨hRc, hRs⟩) hS (fun q _ h => hFc q h) hFc (fun u t H1 locs1 ht hvm hw hB hz hk hS1 => ?_)
  obtain ⟨F1, A1⟩ := u
  obtain ⟨hP1, hK1, hD1⟩ := hB
  rw [ht] at hP1
  exact kk F1 A1 hw H1 locs1 ls ⟨hP1, hD1.weaken (fun _ q _ hx => hFc _ hx), hS1⟩ hl
theorem m_calls {post : Int32 → jF → jA → Prop} (C : jC g cc nL) (X : mX g w fr) (hM : mSi y cc1 nL1 rt fr1 av F A post) (hV : GoodIn lw_all (va_wsS RX1 idx y (ws_ y cc1 nL1 (some rt)))) (hdd : y.cls ≠ "java/lang/invoke/MethodHandle" ∧ y.cls ≠ "java/lang/invoke/VarHandle" ∧ (parseMethodDescriptor y.desc).map (fun d => d.parameters.length) = some n) (hn : av.length = n) (hfr : fr1 + 1 ≤ fr) (hm : nL1 ≤ 11) (hd : decode cc pc = .ok (.invokestatic idx, 3)) (hst : st = av.reverse ++ rest) (hsum : (rest.map fun v => v.category).sum ≤ 8) (hL : L.length = nL) (kk : ∀ (r : Int32) (F1 : jF) (A1 : jA), post r F1 A1 → J g (mP w F1 A1) (pc + 3) L (.int r :: rest)) : J g (mP w F A) pc L st := by
  obtain ⟨p, l, e, R, s, m, args, below, meth, c, Q, cells, slots⟩ := g
  obtain ⟨D, d, h, q, A0, H0⟩ := w
  intro H locs ls hPP hl
  obtain ⟨hown, hts, hK, hH0, hA, hRf, hRl, hRc, hRs⟩ := X
  obtain ⟨hP, hD, hS⟩ := hPP
  subst hH0
  subst hst
  have hFc : ∀ x : Nat, va_A (mW h q d F A) H.size x → A0 x := fun x hx => hx.elim (fun ⟨k, e, hk⟩ => hD.2 k (x, e) hk) (fun hx => hA x (Nat.le_trans hS.1 hx))
  refine va_calli (va_runS (As := av) (rest := rest) ⟨C.1, C.2.1, C.2.2, hown, hts⟩ (hM l D d h q H.size) (va_cwS n hts hV rfl rfl rfl hdd ⟨Nat.le_trans hfr hRf, by simp only [rmN]; omega⟩) ⟨fun a U g mk q => by obtain ⟨q0, q1, qP, qK, qD⟩ := q; exact ⟨q0, q1, qP, va_K.moved (u := U) (U := U.calling g mk a) (Vm.Alike.refl U.vm) qK, qD⟩, fun U hU hW => ⟨rfl, by rw [hU], by rw [hU]; exact hP, va_K.moved hW.alike hK, hD.weaken (fun _ _ _ _ => trivial)⟩⟩ rfl hn (hl.1.trans hL) rfl (lv_room hsum) hd ⟨hRc, hRs⟩) hS (fun q _ h => hFc q h) hFc (fun r u t H1 locs1 ht hvm hw hB hz hk hS1 => ?_)
  obtain ⟨F1, A1⟩ := u
  obtain ⟨hP1, hK1, hD1⟩ := hB
  rw [ht] at hP1
  exact kk r F1 A1 hw H1 locs1 ls ⟨hP1, hD1.weaken (fun _ q _ hx => hFc _ hx), hS1⟩ hl
/-- a call that answers and changes nothing -/
theorem m_callip {post : Int32 → Prop} (C : jC g cc nL) (X : mX g w fr) (hM : mMi y cc1 nL1 rt fr1 av F A (fun r F1 A1 => F1 = F ∧ A1 = A ∧ post r)) (hV : GoodIn lw_all (wsV RX1 idx RX1 y (ws_ y cc1 nL1 (some rt)))) (hdd : y.cls = RX1 ∧ y.cls ≠ "java/lang/invoke/MethodHandle" ∧ y.cls ≠ "java/lang/invoke/VarHandle" ∧ (parseMethodDescriptor y.desc).map (fun d => d.parameters.length) = some n) (hn : av.length = n) (hfr : fr1 + 1 ≤ fr) (hm : nL1 ≤ 11) (hd : decode cc pc = .ok (.invokevirtual idx, 3)) (hst : st = av.reverse ++ .ref (xh w) :: rest) (hsum : (rest.map fun v => v.category).sum ≤ 8) (hL : L.length = nL) (kk : ∀ (r : Int32), post r → J g (mP w F A) (pc + 3) L (.int r :: rest)) : J g (mP w F A) pc L st :=
  m_calli C X hM hV hdd hn hfr hm hd hst hsum hL (fun r F1 A1 hp => by rw [hp.1, hp.2.1]; exact kk r hp.2.2)
theorem m_callsp {post : Int32 → Prop} (C : jC g cc nL) (X : mX g w fr) (hM : mSi y cc1 nL1 rt fr1 av F A (fun r F1 A1 => F1 = F ∧ A1 = A ∧ post r)) (hV : GoodIn lw_all (va_wsS RX1 idx y (ws_ y cc1 nL1 (some rt)))) (hdd : y.cls ≠ "java/lang/invoke/MethodHandle" ∧ y.cls ≠ "java/lang/invoke/VarHandle" ∧ (parseMethodDescriptor y.desc).map (fun d => d.parameters.length) = some n) (hn : av.length = n) (hfr : fr1 + 1 ≤ fr) (hm : nL1 ≤ 11) (hd : decode cc pc = .ok (.invokestatic idx, 3)) (hst : st = av.reverse ++ rest) (hsum : (rest.map fun v => v.category).sum ≤ 8) (hL : L.length = nL) (kk : ∀ (r : Int32), post r → J g (mP w F A) (pc + 3) L (.int r :: rest)) : J g (mP w F A) pc L st :=
  m_calls C X hM hV hdd hn hfr hm hd hst hsum hL (fun r F1 A1 hp => by rw [hp.1, hp.2.1]; exact kk r hp.2.2)
end mCA
end
section
/-! plain Lean: ranges of ints, what assign and the like answer -/
theorem le_lt_succ {v : Int32} {k : Nat} (hk : k + 1 < 2 ^ 31) : v ≤ nI k ↔ v < nI (k + 1) := by
  rw [Int32.le_iff_toInt_le, Int32.lt_iff_toInt_lt, nI_toInt (by omega), nI_toInt hk]
  omega
theorem i32_nlt {a b : Int32} : ¬ a < b ↔ b ≤ a := by
  rw [Int32.le_iff_toInt_le, Int32.lt_iff_toInt_lt]
  omega
theorem i32_nle {a b : Int32} : ¬ a ≤ b ↔ b < a := by
  rw [Int32.le_iff_toInt_le, Int32.lt_iff_toInt_lt]
  omega
def inb (b : Int32) (n : Nat) : Bool := decide (¬ b < 0) && decide (b < nI n)
theorem inb_t {b : Int32} {n : Nat} (h1 : ¬ b < 0) (h2 : b < nI n) : inb b n = true := by
  simp [inb, h1, h2]
theorem inb_f1 {b : Int32} {n : Nat} (h1 : b < 0) : inb b n = false := by
  simp [inb, h1]
theorem inb_f2 {b : Int32} {n : Nat} (h2 : ¬ b < nI n) : inb b n = false := by
  simp [inb, h2]
theorem inb_in {b : Int32} {n : Nat} (hn : n < 2 ^ 31) (h : inb b n = true) : ∃ j : Nat, j < n ∧ b = nI j := by
  simp only [inb, Bool.and_eq_true, decide_eq_true_eq] at h
  rcases pk_ix b hn with h1 | h1 | h1
  · exact absurd h1 h.1
  · exact absurd h.2 (i32_nlt.mpr h1)
  · exact h1
theorem inb_nI {j n : Nat} (h : j < n) (hn : n < 2 ^ 31) : inb (nI j) n = true := inb_t (nI_pos (by omega)) (nI_lt h hn)
theorem nI_ge0 {j : Nat} (h : j < 2 ^ 31) : 0 ≤ nI j := nI_pos' h
theorem neg1_lt : (-1 : Int32) < 0 := by decide
theorem nI_ne_neg {j : Nat} (h : j < 2 ^ 31) : nI j ≠ -1 := by
  intro e
  have := nI_pos h
  rw [e] at this
  exact this neg1_lt
theorem nI_inj {a b : Nat} (ha : a < 2 ^ 31) (hb : b < 2 ^ 31) (h : nI a = nI b) : a = b := (nI_eq ha hb).mp h
theorem up_s {α : Type} {f : Nat → α} {k : Nat} {v : α} : va_up f k v k = v := by simp [va_up]
theorem up_n {α : Type} {f : Nat → α} {k j : Nat} {v : α} (h : j ≠ k) : va_up f k v j = f j := by simp [va_up, h]
/-- what assign answers: n is the block's size -/
def asgC (b op v w n : Int32) : Int32 := if inb b 10 = true then (if inb op 6 = true then (if inb v 4 = true ∧ ((op < nI 1 ∨ nI 3 < op) ∨ inb w 4 = true) then (if n < nI 3 then n + 1 else -4) else -2) else -3) else -1
def asgA (A : jA) (b op v w : Int32) : jA :=
  if 0 < asgC b op v w (A 0 b.toNatClampNeg) then
    va_up (va_up (va_up (va_up A 1 (upd (A 1) (b.toNatClampNeg * 3 + (A 0 b.toNatClampNeg).toNatClampNeg) op)) 2 (upd (A 2) (b.toNatClampNeg * 3 + (A 0 b.toNatClampNeg).toNatClampNeg) v)) 3 (upd (A 3) (b.toNatClampNeg * 3 + (A 0 b.toNatClampNeg).toNatClampNeg) w)) 0 (upd (A 0) b.toNatClampNeg (A 0 b.toNatClampNeg + 1))
  else A
theorem asgC_1 {b op v w n : Int32} (h : inb b 10 = false) : asgC b op v w n = -1 := by simp [asgC, h]
theorem asgC_2 {b op v w n : Int32} (h : inb b 10 = true) (h2 : inb op 6 = false) : asgC b op v w n = -3 := by simp [asgC, h, h2]
theorem asgC_3 {b op v w n : Int32} (h : inb b 10 = true) (h2 : inb op 6 = true) (h3 : inb v 4 = false ∨ (¬ op < nI 1 ∧ ¬ nI 3 < op ∧ inb w 4 = false)) : asgC b op v w n = -2 := by
  rcases h3 with h3 | ⟨h3, h4, h5⟩
  · simp [asgC, h, h2, h3]
  · simp [asgC, h, h2, h3, h4, h5]
theorem asgC_4 {b op v w n : Int32} (h : inb b 10 = true) (h2 : inb op 6 = true) (h3 : inb v 4 = true) (h4 : (op < nI 1 ∨ nI 3 < op) ∨ inb w 4 = true) (h5 : ¬ n < nI 3) : asgC b op v w n = -4 := by
  simp [asgC, h, h2, h3, h4, h5]
theorem asgC_5 {b op v w n : Int32} (h : inb b 10 = true) (h2 : inb op 6 = true) (h3 : inb v 4 = true) (h4 : (op < nI 1 ∨ nI 3 < op) ∨ inb w 4 = true) (h5 : n < nI 3) : asgC b op v w n = n + 1 := by
  simp [asgC, h, h2, h3, h4, h5]
theorem asgA_no {A : jA} {b op v w : Int32} (h : asgC b op v w (A 0 b.toNatClampNeg) < 0) : asgA A b op v w = A := by
  have : ¬ 0 < asgC b op v w (A 0 b.toNatClampNeg) := by
    rw [Int32.lt_iff_toInt_lt] at *
    omega
  simp [asgA, this]
theorem asgA_yes {A : jA} {j s : Nat} {op v w : Int32} (hj : j < 10) (hs : s < 3) (h0 : A 0 j = nI s) (h2 : inb op 6 = true) (h3 : inb v 4 = true) (h4 : (op < nI 1 ∨ nI 3 < op) ∨ inb w 4 = true) :
    asgC (nI j) op v w (A 0 (nI j).toNatClampNeg) = nI (s + 1) ∧ asgA A (nI j) op v w = va_up (va_up (va_up (va_up A 1 (upd (A 1) (j * 3 + s) op)) 2 (upd (A 2) (j * 3 + s) v)) 3 (upd (A 3) (j * 3 + s) w)) 0 (upd (A 0) j (nI (s + 1))) := by
  have e1 : (nI j).toNatClampNeg = j := nI_clamp (by omega)
  have e2 : (nI s).toNatClampNeg = s := nI_clamp (by omega)
  have hc : asgC (nI j) op v w (A 0 (nI j).toNatClampNeg) = nI (s + 1) := by
    rw [e1, h0, asgC_5 (inb_nI hj (by decide)) h2 h3 h4 (nI_lt hs (by decide))]
    exact nI_1 s
  refine ⟨hc, ?_⟩
  have hp : 0 < asgC (nI j) op v w (A 0 (nI j).toNatClampNeg) := by
    rw [hc]
    exact nI_lt (a := 0) (by omega) (by omega)
  rw [asgA, if_pos hp, e1, h0, e2, nI_1]
/-- assign wrote: what its arguments were -/
theorem asgC_pos {b op v w n : Int32} (h : 0 < asgC b op v w n) : inb b 10 = true ∧ inb op 6 = true ∧ inb v 4 = true ∧ ((op < nI 1 ∨ nI 3 < op) ∨ inb w 4 = true) ∧ n < nI 3 := by
  unfold asgC at h
  split at h
  next h1 =>
    split at h
    next h2 =>
      split at h
      next h3 =>
        split at h
        next h4 => exact ⟨h1, h2, h3.1, h3.2, h4⟩
        next => exact absurd h (by decide)
      next => exact absurd h (by decide)
    next => exact absurd h (by decide)
  next => exact absurd h (by decide)
theorem asgC_npos {b op v w n : Int32} (h : ¬ 0 < asgC b op v w n) (hn : n < nI 3 → ¬ n < 0) : asgC b op v w n < 0 := by
  unfold asgC at h ⊢
  split
  next h1 =>
    rw [if_pos h1] at h
    split
    next h2 =>
      rw [if_pos h2] at h
      split
      next h3 =>
        rw [if_pos h3] at h
        split
        next h4 =>
          rw [if_pos h4] at h
          exfalso
          apply h
          have h6 := hn h4
          have h7 : (nI 3).toInt = 3 := by decide
          rw [Int32.lt_iff_toInt_lt] at h4 h6 ⊢
          rw [Int32.toInt_add]
          have h8 : (0 : Int32).toInt = 0 := by decide
          have h9 : (1 : Int32).toInt = 1 := by decide
          rw [h7] at h4
          rw [h8] at h6 ⊢
          rw [h9, Int.bmod_eq_of_le (by omega) (by omega)]
          omega
        next => decide
      next => decide
    next => decide
  next => decide
end
section
def setE (A : jA) (j : Nat) (v t u : Int32) : jA := va_up (va_up (va_up A 4 (upd (A 4) j v)) 5 (upd (A 5) j t)) 6 (upd (A 6) j u)
set_option maxHeartbeats 4000000 in
set_option maxRecDepth 100000 in
theorem x_bad (F : jF) (A : jA) (b : Int32) : xSi yX0_bad cX0_bad 1 .boolean 0 [.int (b)] F A (fun r F1 A1 => F1 = F ∧ A1 = A ∧ ((r = 0 → inb b 10 = true) ∧ (¬ r = 0 → inb b 10 = false))) := by
  refine xSi.intro [some (.int (b))] (by decide) rfl rfl rfl (Nat.le_of_ble_eq_true rfl) ?_
  intro g w C X ret
  show J g (xP w F A) 0 [some (.int (b))] []
  refine j_iload_n C dX0_bad_0 rfl ?_
  refine j_if_lt C 10 dX0_bad_1 (by decide) (fun c_1 => ?_) (fun c_1 => ?_)
  · skip
    refine j_iconst C (v := nI (1)) dX0_bad_10 (by decide) ?_
    refine j_goto C 15 dX0_bad_11 (by decide) ?_
    exact ret _ _ _ _ _ dX0_bad_15 rfl ⟨rfl, rfl, by first | exact ⟨fun hh => absurd hh (by decide), fun _ => inb_f1 c_1⟩ | exact ⟨fun hh => absurd hh (by decide), fun _ => inb_f2 c_7⟩ | exact ⟨fun _ => inb_t c_1 c_7, fun hh => absurd rfl hh⟩⟩
  · skip
    refine j_iload_n C dX0_bad_4 rfl ?_
    refine j_bipush C (v := nI (10)) dX0_bad_5 (by decide) ?_
    refine j_icmp_lt C 14 dX0_bad_7 (by decide) (fun c_7 => ?_) (fun c_7 => ?_)
    · skip
      refine j_iconst C (v := nI (0)) dX0_bad_14 (by decide) ?_
      exact ret _ _ _ _ _ dX0_bad_15 rfl ⟨rfl, rfl, by first | exact ⟨fun hh => absurd hh (by decide), fun _ => inb_f1 c_1⟩ | exact ⟨fun hh => absurd hh (by decide), fun _ => inb_f2 c_7⟩ | exact ⟨fun _ => inb_t c_1 c_7, fun hh => absurd rfl hh⟩⟩
    · skip
      refine j_iconst C (v := nI (1)) dX0_bad_10 (by decide) ?_
      refine j_goto C 15 dX0_bad_11 (by decide) ?_
      exact ret _ _ _ _ _ dX0_bad_15 rfl ⟨rfl, rfl, by first | exact ⟨fun hh => absurd hh (by decide), fun _ => inb_f1 c_1⟩ | exact ⟨fun hh => absurd hh (by decide), fun _ => inb_f2 c_7⟩ | exact ⟨fun _ => inb_t c_1 c_7, fun hh => absurd rfl hh⟩⟩
set_option maxHeartbeats 4000000 in
set_option maxRecDepth 100000 in
theorem x_badVar (F : jF) (A : jA) (b : Int32) : xSi yX0_badVar cX0_badVar 1 .boolean 0 [.int (b)] F A (fun r F1 A1 => F1 = F ∧ A1 = A ∧ ((r = 0 → inb b 4 = true) ∧ (¬ r = 0 → inb b 4 = false))) := by
  refine xSi.intro [some (.int (b))] (by decide) rfl rfl rfl (Nat.le_of_ble_eq_true rfl) ?_
  intro g w C X ret
  show J g (xP w F A) 0 [some (.int (b))] []
  refine j_iload_n C dX0_badVar_0 rfl ?_
  refine j_if_lt C 9 dX0_badVar_1 (by decide) (fun c_1 => ?_) (fun c_1 => ?_)
  · skip
    refine j_iconst C (v := nI (1)) dX0_badVar_9 (by decide) ?_
    refine j_goto C 14 dX0_badVar_10 (by decide) ?_
    exact ret _ _ _ _ _ dX0_badVar_14 rfl ⟨rfl, rfl, by first | exact ⟨fun hh => absurd hh (by decide), fun _ => inb_f1 c_1⟩ | exact ⟨fun hh => absurd hh (by decide), fun _ => inb_f2 (fun hh => c_6 ((le_lt_succ (by decide)).mpr hh))⟩ | exact ⟨fun _ => inb_t c_1 ((le_lt_succ (by decide)).mp c_6), fun hh => absurd rfl hh⟩⟩
  · skip
    refine j_iload_n C dX0_badVar_4 rfl ?_
    refine j_iconst C (v := nI (3)) dX0_badVar_5 (by decide) ?_
    refine j_icmp_le C 13 dX0_badVar_6 (by decide) (fun c_6 => ?_) (fun c_6 => ?_)
    · skip
      refine j_iconst C (v := nI (0)) dX0_badVar_13 (by decide) ?_
      exact ret _ _ _ _ _ dX0_badVar_14 rfl ⟨rfl, rfl, by first | exact ⟨fun hh => absurd hh (by decide), fun _ => inb_f1 c_1⟩ | exact ⟨fun hh => absurd hh (by decide), fun _ => inb_f2 (fun hh => c_6 ((le_lt_succ (by decide)).mpr hh))⟩ | exact ⟨fun _ => inb_t c_1 ((le_lt_succ (by decide)).mp c_6), fun hh => absurd rfl hh⟩⟩
    · skip
      refine j_iconst C (v := nI (1)) dX0_badVar_9 (by decide) ?_
      refine j_goto C 14 dX0_badVar_10 (by decide) ?_
      exact ret _ _ _ _ _ dX0_badVar_14 rfl ⟨rfl, rfl, by first | exact ⟨fun hh => absurd hh (by decide), fun _ => inb_f1 c_1⟩ | exact ⟨fun hh => absurd hh (by decide), fun _ => inb_f2 (fun hh => c_6 ((le_lt_succ (by decide)).mpr hh))⟩ | exact ⟨fun _ => inb_t c_1 ((le_lt_succ (by decide)).mp c_6), fun hh => absurd rfl hh⟩⟩
set_option maxHeartbeats 4000000 in
set_option maxRecDepth 100000 in
theorem x_assign (F : jF) (A : jA) (b op v wd : Int32) (hsz : ∀ j, j < 10 → ∃ s, s ≤ 3 ∧ A 0 j = nI s) : xMi yX0_assign cX0_assign 6 .int 1 [.int (b), .int (op), .int (v), .int (wd)] F A (fun r F1 A1 => F1 = F ∧ r = asgC b op v wd (A 0 b.toNatClampNeg) ∧ A1 = asgA A b op v wd) := by
  refine xMi.intro (fun h => [some (.ref (h)), some (.int (b)), some (.int (op)), some (.int (v)), some (.int (wd)), none]) (by decide) rfl (fun _ => rfl) (fun _ => rfl) (fun _ => Nat.le_of_ble_eq_true rfl) ?_
  intro g w C X ret
  show J g (xP w F A) 0 [some (.ref (xh w)), some (.int (b)), some (.int (op)), some (.int (v)), some (.int (wd)), none] []
  refine j_iload_n C dX0_assign_0 rfl ?_
  refine x_callsp C X (x_bad F A (b)) (lw_S q115 q116 q18 q117) (n := 1) (by decide +kernel) rfl (by decide) (by decide) dX0_assign_1 rfl (Nat.le_of_ble_eq_true rfl) rfl (fun r_1 hb => ?_)
  refine j_if_eq C 9 dX0_assign_4 (by decide) (fun c_4 => ?_) (fun c_4 => ?_)
  · skip
    obtain ⟨j, hj, rfl⟩ := inb_in (n := 10) (by decide) (hb.1 c_4)
    refine j_iload_n C dX0_assign_9 rfl ?_
    refine j_if_lt C 18 dX0_assign_10 (by decide) (fun c_10 => ?_) (fun c_10 => ?_)
    · skip
      have ho : inb op 6 = false := by first | exact inb_f1 c_10 | exact inb_f2 (fun hh => c_15 ((le_lt_succ (by decide)).mpr hh))
      refine j_bipush C (v := -3) dX0_assign_18 (by decide) ?_
      exact ret _ _ _ _ _ dX0_assign_20 rfl ⟨rfl, (asgC_2 (inb_nI hj (by decide)) ho).symm, (asgA_no (by rw [asgC_2 (inb_nI hj (by decide)) ho]; decide)).symm⟩
    · skip
      refine j_iload_n C dX0_assign_13 rfl ?_
      refine j_iconst C (v := nI (5)) dX0_assign_14 (by decide) ?_
      refine j_icmp_le C 21 dX0_assign_15 (by decide) (fun c_15 => ?_) (fun c_15 => ?_)
      · skip
        have ho : inb op 6 = true := inb_t c_10 ((le_lt_succ (by decide)).mp c_15)
        refine j_iload_n C dX0_assign_21 rfl ?_
        refine x_callsp C X (x_badVar F A (v)) (lw_S q118 q119 q18 q120) (n := 1) (by decide +kernel) rfl (by decide) (by decide) dX0_assign_22 rfl (Nat.le_of_ble_eq_true rfl) rfl (fun r_2 hv1 => ?_)
        refine j_if_ne C 46 dX0_assign_25 (by decide) (fun c_25 => ?_) (fun c_25 => ?_)
        · skip
          have h3 : inb v 4 = false ∨ (¬ op < nI 1 ∧ ¬ nI 3 < op ∧ inb wd 4 = false) := by first | exact .inl (hv1.2 c_25) | exact .inr ⟨c_30, c_35, hw1.2 c_43⟩
          refine j_bipush C (v := -2) dX0_assign_46 (by decide) ?_
          exact ret _ _ _ _ _ dX0_assign_48 rfl ⟨rfl, (asgC_3 (inb_nI hj (by decide)) ho h3).symm, (asgA_no (by rw [asgC_3 (inb_nI hj (by decide)) ho h3]; decide)).symm⟩
        · skip
          refine j_iload_n C dX0_assign_28 rfl ?_
          refine j_iconst C (v := nI (1)) dX0_assign_29 (by decide) ?_
          refine j_icmp_lt C 49 dX0_assign_30 (by decide) (fun c_30 => ?_) (fun c_30 => ?_)
          · skip
            have hv2 : inb v 4 = true := hv1.1 c_25
            have h4 : (op < nI 1 ∨ nI 3 < op) ∨ inb wd 4 = true := by first | exact .inl (.inl c_30) | exact .inl (.inr c_35) | exact .inr (hw1.1 c_43)
            obtain ⟨s, hs, es⟩ := hsz j hj
            have ej : (nI j).toNatClampNeg = j := nI_clamp (by omega)
            refine j_aload_n C dX0_assign_49 rfl ?_
            refine x_get_size C X dX0_assign_50 ?_
            refine j_iload_n C dX0_assign_53 rfl ?_
            refine x_ald_size (v := nI (s)) (j) C X dX0_assign_54 rfl (by omega) (es) ?_
            refine j_iconst C (v := nI (3)) dX0_assign_55 (by decide) ?_
            refine j_icmp_lt C 62 dX0_assign_56 (by decide) (fun c_56 => ?_) (fun c_56 => ?_)
            · skip
              have c_56 : s < 3 := (nI_ltI (a := s) (b := 3) (by omega) (by omega)).mp c_56
              refine j_iload_n C dX0_assign_62 rfl ?_
              refine j_iconst C (v := nI (3)) dX0_assign_63 (by decide) ?_
              refine j_imul C (v := nI (j * 3)) dX0_assign_64 (pk_mul _ _) ?_
              refine j_aload_n C dX0_assign_65 rfl ?_
              refine x_get_size C X dX0_assign_66 ?_
              refine j_iload_n C dX0_assign_69 rfl ?_
              refine x_ald_size (v := nI (s)) (j) C X dX0_assign_70 rfl (by omega) (es) ?_
              refine j_iadd C (v := nI ((j * 3) + s)) dX0_assign_71 (nI_add _ _) ?_
              refine j_istore C (L' := [some (.ref (xh w)), some (.int (nI j)), some (.int (op)), some (.int (v)), some (.int (wd)), some (.int (nI ((j * 3) + s)))]) dX0_assign_72 (Nat.le_of_ble_eq_true rfl) rfl rfl ?_
              refine j_aload_n C dX0_assign_74 rfl ?_
              refine x_get_op C X dX0_assign_75 ?_
              refine j_iload C dX0_assign_78 rfl ?_
              refine j_iload_n C dX0_assign_80 rfl ?_
              obtain ⟨A_3, eA_3⟩ : ∃ Z, va_up A 1 (upd (A 1) ((j * 3) + s) (op)) = Z := ⟨_, rfl⟩
              refine x_ast_op ((j * 3) + s) C X dX0_assign_81 rfl (by omega) eA_3 ?_
              refine j_aload_n C dX0_assign_82 rfl ?_
              refine x_get_target C X dX0_assign_83 ?_
              refine j_iload C dX0_assign_86 rfl ?_
              refine j_iload_n C dX0_assign_88 rfl ?_
              obtain ⟨A_4, eA_4⟩ : ∃ Z, va_up A_3 2 (upd (A_3 2) ((j * 3) + s) (v)) = Z := ⟨_, rfl⟩
              refine x_ast_target ((j * 3) + s) C X dX0_assign_89 rfl (by omega) eA_4 ?_
              refine j_aload_n C dX0_assign_90 rfl ?_
              refine x_get_operand C X dX0_assign_91 ?_
              refine j_iload C dX0_assign_94 rfl ?_
              refine j_iload C dX0_assign_96 rfl ?_
              obtain ⟨A_5, eA_5⟩ : ∃ Z, va_up A_4 3 (upd (A_4 3) ((j * 3) + s) (wd)) = Z := ⟨_, rfl⟩
              refine x_ast_operand ((j * 3) + s) C X dX0_assign_98 rfl (by omega) eA_5 ?_
              refine j_aload_n C dX0_assign_99 rfl ?_
              refine x_get_size C X dX0_assign_100 ?_
              refine j_iload_n C dX0_assign_103 rfl ?_
              refine j_dup2 C dX0_assign_104 rfl rfl ?_
              refine x_ald_size (v := nI (s)) (j) C X dX0_assign_105 rfl (by omega) (by rw [← eA_5, ← eA_4, ← eA_3]; exact es) ?_
              refine j_iconst C (v := nI (1)) dX0_assign_106 (by decide) ?_
              refine j_iadd C (v := nI (s + 1)) dX0_assign_107 (nI_add _ _) ?_
              obtain ⟨A_6, eA_6⟩ : ∃ Z, va_up A_5 0 (upd (A_5 0) (j) (nI (s + 1))) = Z := ⟨_, rfl⟩
              refine x_ast_size (j) C X dX0_assign_108 rfl (by omega) eA_6 ?_
              refine j_aload_n C dX0_assign_109 rfl ?_
              refine x_get_size C X dX0_assign_110 ?_
              refine j_iload_n C dX0_assign_113 rfl ?_
              refine x_ald_size (v := nI (s + 1)) (j) C X dX0_assign_114 rfl (by omega) (by rw [← eA_6, ← eA_5, ← eA_4, ← eA_3]; simp [va_up, upd]) ?_
              exact ret _ _ _ _ _ dX0_assign_115 rfl ⟨rfl, (asgA_yes hj (by omega) es ho hv2 h4).1.symm, by subst eA_6; subst eA_5; subst eA_4; subst eA_3; exact (asgA_yes hj (by omega) es ho hv2 h4).2.symm⟩
            · skip
              have c_56 : ¬ s < 3 := fun hh => c_56 ((nI_ltI (a := s) (b := 3) (by omega) (by omega)).mpr hh)
              refine j_bipush C (v := -4) dX0_assign_59 (by decide) ?_
              exact ret _ _ _ _ _ dX0_assign_61 rfl ⟨rfl, (asgC_4 (inb_nI hj (by decide)) ho hv2 h4 (by rw [ej, es]; exact nI_nlt (by omega) (by omega))).symm, (asgA_no (by rw [asgC_4 (inb_nI hj (by decide)) ho hv2 h4 (by rw [ej, es]; exact nI_nlt (by omega) (by omega))]; decide)).symm⟩
          · skip
            refine j_iload_n C dX0_assign_33 rfl ?_
            refine j_iconst C (v := nI (3)) dX0_assign_34 (by decide) ?_
            refine j_icmp_gt C 49 dX0_assign_35 (by decide) (fun c_35 => ?_) (fun c_35 => ?_)
            · skip
              have hv2 : inb v 4 = true := hv1.1 c_25
              have h4 : (op < nI 1 ∨ nI 3 < op) ∨ inb wd 4 = true := by first | exact .inl (.inl c_30) | exact .inl (.inr c_35) | exact .inr (hw1.1 c_43)
              obtain ⟨s, hs, es⟩ := hsz j hj
              have ej : (nI j).toNatClampNeg = j := nI_clamp (by omega)
              refine j_aload_n C dX0_assign_49 rfl ?_
              refine x_get_size C X dX0_assign_50 ?_
              refine j_iload_n C dX0_assign_53 rfl ?_
              refine x_ald_size (v := nI (s)) (j) C X dX0_assign_54 rfl (by omega) (es) ?_
              refine j_iconst C (v := nI (3)) dX0_assign_55 (by decide) ?_
              refine j_icmp_lt C 62 dX0_assign_56 (by decide) (fun c_56 => ?_) (fun c_56 => ?_)
              · skip
                have c_56 : s < 3 := (nI_ltI (a := s) (b := 3) (by omega) (by omega)).mp c_56
                refine j_iload_n C dX0_assign_62 rfl ?_
                refine j_iconst C (v := nI (3)) dX0_assign_63 (by decide) ?_
                refine j_imul C (v := nI (j * 3)) dX0_assign_64 (pk_mul _ _) ?_
                refine j_aload_n C dX0_assign_65 rfl ?_
                refine x_get_size C X dX0_assign_66 ?_
                refine j_iload_n C dX0_assign_69 rfl ?_
                refine x_ald_size (v := nI (s)) (j) C X dX0_assign_70 rfl (by omega) (es) ?_
                refine j_iadd C (v := nI ((j * 3) + s)) dX0_assign_71 (nI_add _ _) ?_
                refine j_istore C (L' := [some (.ref (xh w)), some (.int (nI j)), some (.int (op)), some (.int (v)), some (.int (wd)), some (.int (nI ((j * 3) + s)))]) dX0_assign_72 (Nat.le_of_ble_eq_true rfl) rfl rfl ?_
                refine j_aload_n C dX0_assign_74 rfl ?_
                refine x_get_op C X dX0_assign_75 ?_
                refine j_iload C dX0_assign_78 rfl ?_
                refine j_iload_n C dX0_assign_80 rfl ?_
                obtain ⟨A_7, eA_7⟩ : ∃ Z, va_up A 1 (upd (A 1) ((j * 3) + s) (op)) = Z := ⟨_, rfl⟩
                refine x_ast_op ((j * 3) + s) C X dX0_assign_81 rfl (by omega) eA_7 ?_
                refine j_aload_n C dX0_assign_82 rfl ?_
                refine x_get_target C X dX0_assign_83 ?_
                refine j_iload C dX0_assign_86 rfl ?_
                refine j_iload_n C dX0_assign_88 rfl ?_
                obtain ⟨A_8, eA_8⟩ : ∃ Z, va_up A_7 2 (upd (A_7 2) ((j * 3) + s) (v)) = Z := ⟨_, rfl⟩
                refine x_ast_target ((j * 3) + s) C X dX0_assign_89 rfl (by omega) eA_8 ?_
                refine j_aload_n C dX0_assign_90 rfl ?_
                refine x_get_operand C X dX0_assign_91 ?_
                refine j_iload C dX0_assign_94 rfl ?_
                refine j_iload C dX0_assign_96 rfl ?_
                obtain ⟨A_9, eA_9⟩ : ∃ Z, va_up A_8 3 (upd (A_8 3) ((j * 3) + s) (wd)) = Z := ⟨_, rfl⟩
                refine x_ast_operand ((j * 3) + s) C X dX0_assign_98 rfl (by omega) eA_9 ?_
                refine j_aload_n C dX0_assign_99 rfl ?_
                refine x_get_size C X dX0_assign_100 ?_
                refine j_iload_n C dX0_assign_103 rfl ?_
                refine j_dup2 C dX0_assign_104 rfl rfl ?_
                refine x_ald_size (v := nI (s)) (j) C X dX0_assign_105 rfl (by omega) (by rw [← eA_9, ← eA_8, ← eA_7]; exact es) ?_
                refine j_iconst C (v := nI (1)) dX0_assign_106 (by decide) ?_
                refine j_iadd C (v := nI (s + 1)) dX0_assign_107 (nI_add _ _) ?_
                obtain ⟨A_10, eA_10⟩ : ∃ Z, va_up A_9 0 (upd (A_9 0) (j) (nI (s + 1))) = Z := ⟨_, rfl⟩
                refine x_ast_size (j) C X dX0_assign_108 rfl (by omega) eA_10 ?_
                refine j_aload_n C dX0_assign_109 rfl ?_
                refine x_get_size C X dX0_assign_110 ?_
                refine j_iload_n C dX0_assign_113 rfl ?_
                refine x_ald_size (v := nI (s + 1)) (j) C X dX0_assign_114 rfl (by omega) (by rw [← eA_10, ← eA_9, ← eA_8, ← eA_7]; simp [va_up, upd]) ?_
                exact ret _ _ _ _ _ dX0_assign_115 rfl ⟨rfl, (asgA_yes hj (by omega) es ho hv2 h4).1.symm, by subst eA_10; subst eA_9; subst eA_8; subst eA_7; exact (asgA_yes hj (by omega) es ho hv2 h4).2.symm⟩
              · skip
                have c_56 : ¬ s < 3 := fun hh => c_56 ((nI_ltI (a := s) (b := 3) (by omega) (by omega)).mpr hh)
                refine j_bipush C (v := -4) dX0_assign_59 (by decide) ?_
                exact ret _ _ _ _ _ dX0_assign_61 rfl ⟨rfl, (asgC_4 (inb_nI hj (by decide)) ho hv2 h4 (by rw [ej, es]; exact nI_nlt (by omega) (by omega))).symm, (asgA_no (by rw [asgC_4 (inb_nI hj (by decide)) ho hv2 h4 (by rw [ej, es]; exact nI_nlt (by omega) (by omega))]; decide)).symm⟩
            · skip
              refine j_iload C dX0_assign_38 rfl ?_
              refine x_callsp C X (x_badVar F A (wd)) (lw_S q118 q119 q18 q120) (n := 1) (by decide +kernel) rfl (by decide) (by decide) dX0_assign_40 rfl (Nat.le_of_ble_eq_true rfl) rfl (fun r_11 hw1 => ?_)
              refine j_if_eq C 49 dX0_assign_43 (by decide) (fun c_43 => ?_) (fun c_43 => ?_)
              · skip
                have hv2 : inb v 4 = true := hv1.1 c_25
                have h4 : (op < nI 1 ∨ nI 3 < op) ∨ inb wd 4 = true := by first | exact .inl (.inl c_30) | exact .inl (.inr c_35) | exact .inr (hw1.1 c_43)
                obtain ⟨s, hs, es⟩ := hsz j hj
                have ej : (nI j).toNatClampNeg = j := nI_clamp (by omega)
                refine j_aload_n C dX0_assign_49 rfl ?_
                refine x_get_size C X dX0_assign_50 ?_
                refine j_iload_n C dX0_assign_53 rfl ?_
                refine x_ald_size (v := nI (s)) (j) C X dX0_assign_54 rfl (by omega) (es) ?_
                refine j_iconst C (v := nI (3)) dX0_assign_55 (by decide) ?_
                refine j_icmp_lt C 62 dX0_assign_56 (by decide) (fun c_56 => ?_) (fun c_56 => ?_)
                · skip
                  have c_56 : s < 3 := (nI_ltI (a := s) (b := 3) (by omega) (by omega)).mp c_56
                  refine j_iload_n C dX0_assign_62 rfl ?_
                  refine j_iconst C (v := nI (3)) dX0_assign_63 (by decide) ?_
                  refine j_imul C (v := nI (j * 3)) dX0_assign_64 (pk_mul _ _) ?_
                  refine j_aload_n C dX0_assign_65 rfl ?_
                  refine x_get_size C X dX0_assign_66 ?_
                  refine j_iload_n C dX0_assign_69 rfl ?_
                  refine x_ald_size (v := nI (s)) (j) C X dX0_assign_70 rfl (by omega) (es) ?_
                  refine j_iadd C (v := nI ((j * 3) + s)) dX0_assign_71 (nI_add _ _) ?_
                  refine j_istore C (L' := [some (.ref (xh w)), some (.int (nI j)), some (.int (op)), some (.int (v)), some (.int (wd)), some (.int (nI ((j * 3) + s)))]) dX0_assign_72 (Nat.le_of_ble_eq_true rfl) rfl rfl ?_
                  refine j_aload_n C dX0_assign_74 rfl ?_
                  refine x_get_op C X dX0_assign_75 ?_
                  refine j_iload C dX0_assign_78 rfl ?_
                  refine j_iload_n C dX0_assign_80 rfl ?_
                  obtain ⟨A_12, eA_12⟩ : ∃ Z, va_up A 1 (upd (A 1) ((j * 3) + s) (op)) = Z := ⟨_, rfl⟩
                  refine x_ast_op ((j * 3) + s) C X dX0_assign_81 rfl (by omega) eA_12 ?_
                  refine j_aload_n C dX0_assign_82 rfl ?_
                  refine x_get_target C X dX0_assign_83 ?_
                  refine j_iload C dX0_assign_86 rfl ?_
                  refine j_iload_n C dX0_assign_88 rfl ?_
                  obtain ⟨A_13, eA_13⟩ : ∃ Z, va_up A_12 2 (upd (A_12 2) ((j * 3) + s) (v)) = Z := ⟨_, rfl⟩
                  refine x_ast_target ((j * 3) + s) C X dX0_assign_89 rfl (by omega) eA_13 ?_
                  refine j_aload_n C dX0_assign_90 rfl ?_
                  refine x_get_operand C X dX0_assign_91 ?_
                  refine j_iload C dX0_assign_94 rfl ?_
                  refine j_iload C dX0_assign_96 rfl ?_
                  obtain ⟨A_14, eA_14⟩ : ∃ Z, va_up A_13 3 (upd (A_13 3) ((j * 3) + s) (wd)) = Z := ⟨_, rfl⟩
                  refine x_ast_operand ((j * 3) + s) C X dX0_assign_98 rfl (by omega) eA_14 ?_
                  refine j_aload_n C dX0_assign_99 rfl ?_
                  refine x_get_size C X dX0_assign_100 ?_
                  refine j_iload_n C dX0_assign_103 rfl ?_
                  refine j_dup2 C dX0_assign_104 rfl rfl ?_
                  refine x_ald_size (v := nI (s)) (j) C X dX0_assign_105 rfl (by omega) (by rw [← eA_14, ← eA_13, ← eA_12]; exact es) ?_
                  refine j_iconst C (v := nI (1)) dX0_assign_106 (by decide) ?_
                  refine j_iadd C (v := nI (s + 1)) dX0_assign_107 (nI_add _ _) ?_
                  obtain ⟨A_15, eA_15⟩ : ∃ Z, va_up A_14 0 (upd (A_14 0) (j) (nI (s + 1))) = Z := ⟨_, rfl⟩
                  refine x_ast_size (j) C X dX0_assign_108 rfl (by omega) eA_15 ?_
                  refine j_aload_n C dX0_assign_109 rfl ?_
                  refine x_get_size C X dX0_assign_110 ?_
                  refine j_iload_n C dX0_assign_113 rfl ?_
                  refine x_ald_size (v := nI (s + 1)) (j) C X dX0_assign_114 rfl (by omega) (by rw [← eA_15, ← eA_14, ← eA_13, ← eA_12]; simp [va_up, upd]) ?_
                  exact ret _ _ _ _ _ dX0_assign_115 rfl ⟨rfl, (asgA_yes hj (by omega) es ho hv2 h4).1.symm, by subst eA_15; subst eA_14; subst eA_13; subst eA_12; exact (asgA_yes hj (by omega) es ho hv2 h4).2.symm⟩
                · skip
                  have c_56 : ¬ s < 3 := fun hh => c_56 ((nI_ltI (a := s) (b := 3) (by omega) (by omega)).mpr hh)
                  refine j_bipush C (v := -4) dX0_assign_59 (by decide) ?_
                  exact ret _ _ _ _ _ dX0_assign_61 rfl ⟨rfl, (asgC_4 (inb_nI hj (by decide)) ho hv2 h4 (by rw [ej, es]; exact nI_nlt (by omega) (by omega))).symm, (asgA_no (by rw [asgC_4 (inb_nI hj (by decide)) ho hv2 h4 (by rw [ej, es]; exact nI_nlt (by omega) (by omega))]; decide)).symm⟩
              · skip
                have h3 : inb v 4 = false ∨ (¬ op < nI 1 ∧ ¬ nI 3 < op ∧ inb wd 4 = false) := by first | exact .inl (hv1.2 c_25) | exact .inr ⟨c_30, c_35, hw1.2 c_43⟩
                refine j_bipush C (v := -2) dX0_assign_46 (by decide) ?_
                exact ret _ _ _ _ _ dX0_assign_48 rfl ⟨rfl, (asgC_3 (inb_nI hj (by decide)) ho h3).symm, (asgA_no (by rw [asgC_3 (inb_nI hj (by decide)) ho h3]; decide)).symm⟩
      · skip
        have ho : inb op 6 = false := by first | exact inb_f1 c_10 | exact inb_f2 (fun hh => c_15 ((le_lt_succ (by decide)).mpr hh))
        refine j_bipush C (v := -3) dX0_assign_18 (by decide) ?_
        exact ret _ _ _ _ _ dX0_assign_20 rfl ⟨rfl, (asgC_2 (inb_nI hj (by decide)) ho).symm, (asgA_no (by rw [asgC_2 (inb_nI hj (by decide)) ho]; decide)).symm⟩
  · skip
    refine j_iconst C (v := -1) dX0_assign_7 (by decide) ?_
    exact ret _ _ _ _ _ dX0_assign_8 rfl ⟨rfl, (asgC_1 (hb.2 c_4)).symm, (asgA_no (by rw [asgC_1 (hb.2 c_4)]; decide)).symm⟩
set_option maxHeartbeats 4000000 in
set_option maxRecDepth 100000 in
theorem x_empty (F : jF) (A : jA) (b : Int32) : xMi yX0_empty cX0_empty 3 .int 1 [.int (b)] F A (fun r F1 A1 => F1 = F ∧ ((∃ j, j < 10 ∧ b = nI j ∧ r = A 0 j ∧ A1 = va_up A 0 (upd (A 0) j (nI 0))) ∨ (inb b 10 = false ∧ r = -1 ∧ A1 = A))) := by
  refine xMi.intro (fun h => [some (.ref (h)), some (.int (b)), none]) (by decide) rfl (fun _ => rfl) (fun _ => rfl) (fun _ => Nat.le_of_ble_eq_true rfl) ?_
  intro g w C X ret
  show J g (xP w F A) 0 [some (.ref (xh w)), some (.int (b)), none] []
  refine j_iload_n C dX0_empty_0 rfl ?_
  refine x_callsp C X (x_bad F A (b)) (lw_S q115 q116 q18 q117) (n := 1) (by decide +kernel) rfl (by decide) (by decide) dX0_empty_1 rfl (Nat.le_of_ble_eq_true rfl) rfl (fun r_1 hb => ?_)
  refine j_if_eq C 9 dX0_empty_4 (by decide) (fun c_4 => ?_) (fun c_4 => ?_)
  · skip
    obtain ⟨j, hj, rfl⟩ := inb_in (n := 10) (by decide) (hb.1 c_4)
    refine j_aload_n C dX0_empty_9 rfl ?_
    refine x_get_size C X dX0_empty_10 ?_
    refine j_iload_n C dX0_empty_13 rfl ?_
    refine x_ald_size (v := A 0 j) (j) C X dX0_empty_14 rfl (by omega) (rfl) ?_
    refine j_istore_n C (L' := [some (.ref (xh w)), some (.int (nI j)), some (.int (A 0 j))]) dX0_empty_15 (Nat.le_of_ble_eq_true rfl) rfl rfl ?_
    refine j_aload_n C dX0_empty_16 rfl ?_
    refine x_get_size C X dX0_empty_17 ?_
    refine j_iload_n C dX0_empty_20 rfl ?_
    refine j_iconst C (v := nI (0)) dX0_empty_21 (by decide) ?_
    obtain ⟨A_2, eA_2⟩ : ∃ Z, va_up A 0 (upd (A 0) (j) (nI (0))) = Z := ⟨_, rfl⟩
    refine x_ast_size (j) C X dX0_empty_22 rfl (by omega) eA_2 ?_
    refine j_iload_n C dX0_empty_23 rfl ?_
    exact ret _ _ _ _ _ dX0_empty_24 rfl ⟨rfl, .inl ⟨j, hj, rfl, rfl, by subst eA_2; rfl⟩⟩
  · skip
    refine j_iconst C (v := -1) dX0_empty_7 (by decide) ?_
    exact ret _ _ _ _ _ dX0_empty_8 rfl ⟨rfl, .inr ⟨hb.2 c_4, rfl, rfl⟩⟩
set_option maxHeartbeats 4000000 in
set_option maxRecDepth 100000 in
theorem x_set (F : jF) (A : jA) (v val : Int32) : xMi yX0_set cX0_set 3 .int 1 [.int (v), .int (val)] F A (fun r F1 A1 => F1 = F ∧ ((∃ j, j < 4 ∧ v = nI j ∧ r = nI 0 ∧ A1 = va_up A 20 (upd (A 20) j val)) ∨ (inb v 4 = false ∧ r = -2 ∧ A1 = A))) := by
  refine xMi.intro (fun h => [some (.ref (h)), some (.int (v)), some (.int (val))]) (by decide) rfl (fun _ => rfl) (fun _ => rfl) (fun _ => Nat.le_of_ble_eq_true rfl) ?_
  intro g w C X ret
  show J g (xP w F A) 0 [some (.ref (xh w)), some (.int (v)), some (.int (val))] []
  refine j_iload_n C dX0_set_0 rfl ?_
  refine x_callsp C X (x_badVar F A (v)) (lw_S q118 q119 q18 q120) (n := 1) (by decide +kernel) rfl (by decide) (by decide) dX0_set_1 rfl (Nat.le_of_ble_eq_true rfl) rfl (fun r_1 hb => ?_)
  refine j_if_eq C 10 dX0_set_4 (by decide) (fun c_4 => ?_) (fun c_4 => ?_)
  · skip
    obtain ⟨j, hj, rfl⟩ := inb_in (n := 4) (by decide) (hb.1 c_4)
    refine j_aload_n C dX0_set_10 rfl ?_
    refine x_get_var C X dX0_set_11 ?_
    refine j_iload_n C dX0_set_14 rfl ?_
    refine j_iload_n C dX0_set_15 rfl ?_
    obtain ⟨A_2, eA_2⟩ : ∃ Z, va_up A 20 (upd (A 20) (j) (val)) = Z := ⟨_, rfl⟩
    refine x_ast_var (j) C X dX0_set_16 rfl (by omega) eA_2 ?_
    refine j_iconst C (v := nI (0)) dX0_set_17 (by decide) ?_
    exact ret _ _ _ _ _ dX0_set_18 rfl ⟨rfl, .inl ⟨j, hj, rfl, rfl, by subst eA_2; rfl⟩⟩
  · skip
    refine j_bipush C (v := -2) dX0_set_7 (by decide) ?_
    exact ret _ _ _ _ _ dX0_set_9 rfl ⟨rfl, .inr ⟨hb.2 c_4, rfl, rfl⟩⟩
set_option maxHeartbeats 4000000 in
set_option maxRecDepth 100000 in
theorem x_get (F : jF) (A : jA) (v : Int32) : xMi yX0_get cX0_get 2 .int 1 [.int (v)] F A (fun r F1 A1 => F1 = F ∧ A1 = A ∧ ((∃ j, j < 4 ∧ v = nI j ∧ r = A 20 j) ∨ (inb v 4 = false ∧ r = nI 0))) := by
  refine xMi.intro (fun h => [some (.ref (h)), some (.int (v))]) (by decide) rfl (fun _ => rfl) (fun _ => rfl) (fun _ => Nat.le_of_ble_eq_true rfl) ?_
  intro g w C X ret
  show J g (xP w F A) 0 [some (.ref (xh w)), some (.int (v))] []
  refine j_iload_n C dX0_get_0 rfl ?_
  refine x_callsp C X (x_badVar F A (v)) (lw_S q118 q119 q18 q120) (n := 1) (by decide +kernel) rfl (by decide) (by decide) dX0_get_1 rfl (Nat.le_of_ble_eq_true rfl) rfl (fun r_1 hb => ?_)
  refine j_if_eq C 11 dX0_get_4 (by decide) (fun c_4 => ?_) (fun c_4 => ?_)
  · skip
    obtain ⟨j, hj, rfl⟩ := inb_in (n := 4) (by decide) (hb.1 c_4)
    refine j_aload_n C dX0_get_11 rfl ?_
    refine x_get_var C X dX0_get_12 ?_
    refine j_iload_n C dX0_get_15 rfl ?_
    refine x_ald_var (v := A 20 j) (j) C X dX0_get_16 rfl (by omega) (rfl) ?_
    first | exact ret _ _ _ _ _ dX0_get_17 rfl ⟨rfl, rfl, .inr ⟨hb.2 c_4, rfl⟩⟩ | exact ret _ _ _ _ _ dX0_get_17 rfl ⟨rfl, rfl, .inl ⟨j, hj, rfl, rfl⟩⟩
  · skip
    refine j_iconst C (v := nI (0)) dX0_get_7 (by decide) ?_
    refine j_goto C 17 dX0_get_8 (by decide) ?_
    first | exact ret _ _ _ _ _ dX0_get_17 rfl ⟨rfl, rfl, .inr ⟨hb.2 c_4, rfl⟩⟩ | exact ret _ _ _ _ _ dX0_get_17 rfl ⟨rfl, rfl, .inl ⟨j, hj, rfl, rfl⟩⟩
set_option maxHeartbeats 4000000 in
set_option maxRecDepth 100000 in
theorem x_visits (F : jF) (A : jA) (v : Int32) : xMi yX0_visits cX0_visits 2 .int 1 [.int (v)] F A (fun r F1 A1 => F1 = F ∧ A1 = A ∧ ((∃ j, j < 10 ∧ v = nI j ∧ r = A 24 j) ∨ (inb v 10 = false ∧ r = -1))) := by
  refine xMi.intro (fun h => [some (.ref (h)), some (.int (v))]) (by decide) rfl (fun _ => rfl) (fun _ => rfl) (fun _ => Nat.le_of_ble_eq_true rfl) ?_
  intro g w C X ret
  show J g (xP w F A) 0 [some (.ref (xh w)), some (.int (v))] []
  refine j_iload_n C dX0_visits_0 rfl ?_
  refine x_callsp C X (x_bad F A (v)) (lw_S q115 q116 q18 q117) (n := 1) (by decide +kernel) rfl (by decide) (by decide) dX0_visits_1 rfl (Nat.le_of_ble_eq_true rfl) rfl (fun r_1 hb => ?_)
  refine j_if_eq C 11 dX0_visits_4 (by decide) (fun c_4 => ?_) (fun c_4 => ?_)
  · skip
    obtain ⟨j, hj, rfl⟩ := inb_in (n := 10) (by decide) (hb.1 c_4)
    refine j_aload_n C dX0_visits_11 rfl ?_
    refine x_get_seen C X dX0_visits_12 ?_
    refine j_iload_n C dX0_visits_15 rfl ?_
    refine x_ald_seen (v := A 24 j) (j) C X dX0_visits_16 rfl (by omega) (rfl) ?_
    first | exact ret _ _ _ _ _ dX0_visits_17 rfl ⟨rfl, rfl, .inr ⟨hb.2 c_4, rfl⟩⟩ | exact ret _ _ _ _ _ dX0_visits_17 rfl ⟨rfl, rfl, .inl ⟨j, hj, rfl, rfl⟩⟩
  · skip
    refine j_iconst C (v := -1) dX0_visits_7 (by decide) ?_
    refine j_goto C 17 dX0_visits_8 (by decide) ?_
    first | exact ret _ _ _ _ _ dX0_visits_17 rfl ⟨rfl, rfl, .inr ⟨hb.2 c_4, rfl⟩⟩ | exact ret _ _ _ _ _ dX0_visits_17 rfl ⟨rfl, rfl, .inl ⟨j, hj, rfl, rfl⟩⟩
set_option maxHeartbeats 4000000 in
set_option maxRecDepth 100000 in
theorem x_outputs (F : jF) (A : jA)  : xMi yX0_outputs cX0_outputs 1 .int 0 [] F A (fun r F1 A1 => F1 = F ∧ A1 = A ∧ r = F 25) := by
  refine xMi.intro (fun h => [some (.ref (h))]) (by decide) rfl (fun _ => rfl) (fun _ => rfl) (fun _ => Nat.le_of_ble_eq_true rfl) ?_
  intro g w C X ret
  show J g (xP w F A) 0 [some (.ref (xh w))] []
  refine j_aload_n C dX0_outputs_0 rfl ?_
  refine x_get_written C X dX0_outputs_1 ?_
  exact ret _ _ _ _ _ dX0_outputs_4 rfl ⟨rfl, rfl, rfl⟩
set_option maxHeartbeats 4000000 in
set_option maxRecDepth 100000 in
theorem x_last (F : jF) (A : jA)  : xMi yX0_last cX0_last 1 .int 0 [] F A (fun r F1 A1 => F1 = F ∧ A1 = A ∧ r = F 23) := by
  refine xMi.intro (fun h => [some (.ref (h))]) (by decide) rfl (fun _ => rfl) (fun _ => rfl) (fun _ => Nat.le_of_ble_eq_true rfl) ?_
  intro g w C X ret
  show J g (xP w F A) 0 [some (.ref (xh w))] []
  refine j_aload_n C dX0_last_0 rfl ?_
  refine x_get_ended C X dX0_last_1 ?_
  exact ret _ _ _ _ _ dX0_last_4 rfl ⟨rfl, rfl, rfl⟩
set_option maxHeartbeats 4000000 in
set_option maxRecDepth 100000 in
theorem x_output (F : jF) (A : jA) (back : Int32) (n : Nat) (hn : F 25 = nI n) (hnb : n < 2 ^ 20) : xMi yX0_output cX0_output 2 .int 0 [.int (back)] F A (fun r F1 A1 => F1 = F ∧ A1 = A ∧ ((∃ k, k < 16 ∧ k < n ∧ back = nI k ∧ r = A 26 ((n - 1 - k) % 16)) ∨ ((inb back 16 = false ∨ F 25 ≤ back) ∧ r = nI 0))) := by
  refine xMi.intro (fun h => [some (.ref (h)), some (.int (back))]) (by decide) rfl (fun _ => rfl) (fun _ => rfl) (fun _ => Nat.le_of_ble_eq_true rfl) ?_
  intro g w C X ret
  show J g (xP w F A) 0 [some (.ref (xh w)), some (.int (back))] []
  refine j_iload_n C dX0_output_0 rfl ?_
  refine j_if_lt C 18 dX0_output_1 (by decide) (fun c_1 => ?_) (fun c_1 => ?_)
  · skip
    have hbad : inb back 16 = false ∨ F 25 ≤ back := by first | exact .inl (inb_f1 c_1) | exact .inl (inb_f2 (fun hh => i32_nlt.mpr ((le_lt_succ (by decide)).mpr hh) c_7)) | exact .inr (i32_nlt.mp c_15)
    refine j_iconst C (v := nI (0)) dX0_output_18 (by decide) ?_
    exact ret _ _ _ _ _ dX0_output_19 rfl ⟨rfl, rfl, .inr ⟨hbad, rfl⟩⟩
  · skip
    refine j_iload_n C dX0_output_4 rfl ?_
    refine j_bipush C (v := nI (15)) dX0_output_5 (by decide) ?_
    refine j_icmp_gt C 18 dX0_output_7 (by decide) (fun c_7 => ?_) (fun c_7 => ?_)
    · skip
      have hbad : inb back 16 = false ∨ F 25 ≤ back := by first | exact .inl (inb_f1 c_1) | exact .inl (inb_f2 (fun hh => i32_nlt.mpr ((le_lt_succ (by decide)).mpr hh) c_7)) | exact .inr (i32_nlt.mp c_15)
      refine j_iconst C (v := nI (0)) dX0_output_18 (by decide) ?_
      exact ret _ _ _ _ _ dX0_output_19 rfl ⟨rfl, rfl, .inr ⟨hbad, rfl⟩⟩
    · skip
      refine j_iload_n C dX0_output_10 rfl ?_
      refine j_aload_n C dX0_output_11 rfl ?_
      refine x_get_written C X dX0_output_12 ?_
      refine j_icmp_lt C 20 dX0_output_15 (by decide) (fun c_15 => ?_) (fun c_15 => ?_)
      · skip
        obtain ⟨k, hk, rfl⟩ := inb_in (n := 16) (by decide) (inb_t c_1 ((le_lt_succ (by decide)).mp (i32_nlt.mp c_7)))
        have hkn : k < n := (nI_ltI (by omega) (by omega)).mp (by rw [← hn]; exact c_15)
        refine j_aload_n C dX0_output_20 rfl ?_
        refine x_get_lastOut C X dX0_output_21 ?_
        refine j_aload_n C dX0_output_24 rfl ?_
        refine x_get_written C X dX0_output_25 ?_
        refine j_top (y := nI (n)) (hn) ?_
        refine j_iconst C (v := nI (1)) dX0_output_28 (by decide) ?_
        refine j_isub C (v := nI (n - 1)) dX0_output_29 (pk_sub (by omega)) ?_
        refine j_iload_n C dX0_output_30 rfl ?_
        refine j_isub C (v := nI ((n - 1) - k)) dX0_output_31 (pk_sub (by omega)) ?_
        refine j_bipush C (v := nI (15)) dX0_output_32 (by decide) ?_
        refine j_iand C (v := nI ((n - 1 - k) % 16)) dX0_output_34 (pk_andN (by omega) 4 (by decide)) ?_
        refine x_ald_lastOut (v := A 26 ((n - 1 - k) % 16)) ((n - 1 - k) % 16) C X dX0_output_35 rfl (by omega) (rfl) ?_
        exact ret _ _ _ _ _ dX0_output_36 rfl ⟨rfl, rfl, .inl ⟨k, hk, hkn, rfl, rfl⟩⟩
      · skip
        have hbad : inb back 16 = false ∨ F 25 ≤ back := by first | exact .inl (inb_f1 c_1) | exact .inl (inb_f2 (fun hh => i32_nlt.mpr ((le_lt_succ (by decide)).mpr hh) c_7)) | exact .inr (i32_nlt.mp c_15)
        refine j_iconst C (v := nI (0)) dX0_output_18 (by decide) ?_
        exact ret _ _ _ _ _ dX0_output_19 rfl ⟨rfl, rfl, .inr ⟨hbad, rfl⟩⟩
set_option maxHeartbeats 4000000 in
set_option maxRecDepth 100000 in
theorem x_setEnd (F : jF) (A : jA) (j : Nat) (hj : j < 10) (v t u : Int32) : xMv yX0_setEnd cX0_setEnd 5 0 [.int (nI j), .int (v), .int (t), .int (u)] F A (fun F1 A1 => F1 = upd F 7 (nI 0) ∧ A1 = setE A j v t u) := by
  refine xMv.intro (fun h => [some (.ref (h)), some (.int (nI j)), some (.int (v)), some (.int (t)), some (.int (u))]) (by decide) rfl (fun _ => rfl) (fun _ => rfl) (fun _ => Nat.le_of_ble_eq_true rfl) ?_
  intro g w C X ret
  show J g (xP w F A) 0 [some (.ref (xh w)), some (.int (nI j)), some (.int (v)), some (.int (t)), some (.int (u))] []
  refine j_aload_n C dX0_setEnd_0 rfl ?_
  refine x_get_test C X dX0_setEnd_1 ?_
  refine j_iload_n C dX0_setEnd_4 rfl ?_
  refine j_iload_n C dX0_setEnd_5 rfl ?_
  obtain ⟨A_1, eA_1⟩ : ∃ Z, va_up A 4 (upd (A 4) (j) (v)) = Z := ⟨_, rfl⟩
  refine x_ast_test (j) C X dX0_setEnd_6 rfl (by omega) eA_1 ?_
  refine j_aload_n C dX0_setEnd_7 rfl ?_
  refine x_get_first C X dX0_setEnd_8 ?_
  refine j_iload_n C dX0_setEnd_11 rfl ?_
  refine j_iload_n C dX0_setEnd_12 rfl ?_
  obtain ⟨A_2, eA_2⟩ : ∃ Z, va_up A_1 5 (upd (A_1 5) (j) (t)) = Z := ⟨_, rfl⟩
  refine x_ast_first (j) C X dX0_setEnd_13 rfl (by omega) eA_2 ?_
  refine j_aload_n C dX0_setEnd_14 rfl ?_
  refine x_get_second C X dX0_setEnd_15 ?_
  refine j_iload_n C dX0_setEnd_18 rfl ?_
  refine j_iload C dX0_setEnd_19 rfl ?_
  obtain ⟨A_3, eA_3⟩ : ∃ Z, va_up A_2 6 (upd (A_2 6) (j) (u)) = Z := ⟨_, rfl⟩
  refine x_ast_second (j) C X dX0_setEnd_21 rfl (by omega) eA_3 ?_
  refine j_aload_n C dX0_setEnd_22 rfl ?_
  refine j_iconst C (v := nI (0)) dX0_setEnd_23 (by decide) ?_
  refine x_put_ready C X dX0_setEnd_24 (by decide) rfl ?_
  exact ret _ _ _ _ dX0_setEnd_27 ⟨rfl, by subst eA_3; subst eA_2; subst eA_1; rfl⟩
set_option maxHeartbeats 4000000 in
set_option maxRecDepth 100000 in
theorem x_stop (F : jF) (A : jA) (b : Int32) : xMi yX0_stop cX0_stop 2 .int 1 [.int (b)] F A (fun r F1 A1 => (∃ j, j < 10 ∧ b = nI j ∧ r = nI 0 ∧ F1 = upd F 7 (nI 0) ∧ A1 = setE A j (-1) (-1) (-1)) ∨ (inb b 10 = false ∧ r = -1 ∧ F1 = F ∧ A1 = A)) := by
  refine xMi.intro (fun h => [some (.ref (h)), some (.int (b))]) (by decide) rfl (fun _ => rfl) (fun _ => rfl) (fun _ => Nat.le_of_ble_eq_true rfl) ?_
  intro g w C X ret
  show J g (xP w F A) 0 [some (.ref (xh w)), some (.int (b))] []
  refine j_iload_n C dX0_stop_0 rfl ?_
  refine x_callsp C X (x_bad F A (b)) (lw_S q115 q116 q18 q117) (n := 1) (by decide +kernel) rfl (by decide) (by decide) dX0_stop_1 rfl (Nat.le_of_ble_eq_true rfl) rfl (fun r_1 hb => ?_)
  refine j_if_eq C 9 dX0_stop_4 (by decide) (fun c_4 => ?_) (fun c_4 => ?_)
  · skip
    obtain ⟨j, hj, rfl⟩ := inb_in (n := 10) (by decide) (hb.1 c_4)
    refine j_aload_n C dX0_stop_9 rfl ?_
    refine j_iload_n C dX0_stop_10 rfl ?_
    refine j_iconst C (v := -1) dX0_stop_11 (by decide) ?_
    refine j_iconst C (v := -1) dX0_stop_12 (by decide) ?_
    refine j_iconst C (v := -1) dX0_stop_13 (by decide) ?_
    refine x_callv C X (x_setEnd F A j hj (-1) (-1) (-1)) (lw_V q129 q131 qs0 q18 q132) (n := 4) (by decide +kernel) rfl (by decide) (by decide) dX0_stop_14 rfl (Nat.le_of_ble_eq_true rfl) rfl (fun F_3 A_4 he => ?_)
    refine j_iconst C (v := nI (0)) dX0_stop_17 (by decide) ?_
    exact ret _ _ _ _ _ dX0_stop_18 rfl (.inl ⟨j, hj, rfl, rfl, he.1, he.2⟩)
  · skip
    refine j_iconst C (v := -1) dX0_stop_7 (by decide) ?_
    exact ret _ _ _ _ _ dX0_stop_8 rfl (.inr ⟨hb.2 c_4, rfl, rfl, rfl⟩)
set_option maxHeartbeats 4000000 in
set_option maxRecDepth 100000 in
theorem x_go (F : jF) (A : jA) (b t : Int32) : xMi yX0_go cX0_go 3 .int 1 [.int (b), .int (t)] F A (fun r F1 A1 => (∃ j k, j < 10 ∧ k < 10 ∧ b = nI j ∧ t = nI k ∧ r = nI 0 ∧ F1 = upd F 7 (nI 0) ∧ A1 = setE A j (-1) (nI k) (-1)) ∨ ((inb b 10 = false ∨ inb t 10 = false) ∧ r = -1 ∧ F1 = F ∧ A1 = A)) := by
  refine xMi.intro (fun h => [some (.ref (h)), some (.int (b)), some (.int (t))]) (by decide) rfl (fun _ => rfl) (fun _ => rfl) (fun _ => Nat.le_of_ble_eq_true rfl) ?_
  intro g w C X ret
  show J g (xP w F A) 0 [some (.ref (xh w)), some (.int (b)), some (.int (t))] []
  refine j_iload_n C dX0_go_0 rfl ?_
  refine x_callsp C X (x_bad F A (b)) (lw_S q115 q116 q18 q117) (n := 1) (by decide +kernel) rfl (by decide) (by decide) dX0_go_1 rfl (Nat.le_of_ble_eq_true rfl) rfl (fun r_1 hb => ?_)
  refine j_if_ne C 14 dX0_go_4 (by decide) (fun c_4 => ?_) (fun c_4 => ?_)
  · skip
    refine j_iconst C (v := -1) dX0_go_14 (by decide) ?_
    first | exact ret _ _ _ _ _ dX0_go_15 rfl (.inr ⟨.inl (hb.2 c_4), rfl, rfl, rfl⟩) | exact ret _ _ _ _ _ dX0_go_15 rfl (.inr ⟨.inr (ht.2 c_11), rfl, rfl, rfl⟩)
  · skip
    obtain ⟨j, hj, rfl⟩ := inb_in (n := 10) (by decide) (hb.1 c_4)
    refine j_iload_n C dX0_go_7 rfl ?_
    refine x_callsp C X (x_bad F A (t)) (lw_S q115 q116 q18 q117) (n := 1) (by decide +kernel) rfl (by decide) (by decide) dX0_go_8 rfl (Nat.le_of_ble_eq_true rfl) rfl (fun r_2 ht => ?_)
    refine j_if_eq C 16 dX0_go_11 (by decide) (fun c_11 => ?_) (fun c_11 => ?_)
    · skip
      obtain ⟨k, hk, rfl⟩ := inb_in (n := 10) (by decide) (ht.1 c_11)
      refine j_aload_n C dX0_go_16 rfl ?_
      refine j_iload_n C dX0_go_17 rfl ?_
      refine j_iconst C (v := -1) dX0_go_18 (by decide) ?_
      refine j_iload_n C dX0_go_19 rfl ?_
      refine j_iconst C (v := -1) dX0_go_20 (by decide) ?_
      refine x_callv C X (x_setEnd F A j hj (-1) (nI k) (-1)) (lw_V q129 q131 qs0 q18 q132) (n := 4) (by decide +kernel) rfl (by decide) (by decide) dX0_go_21 rfl (Nat.le_of_ble_eq_true rfl) rfl (fun F_4 A_5 he => ?_)
      refine j_iconst C (v := nI (0)) dX0_go_24 (by decide) ?_
      exact ret _ _ _ _ _ dX0_go_25 rfl (.inl ⟨j, k, hj, hk, rfl, rfl, rfl, he.1, he.2⟩)
    · skip
      refine j_iconst C (v := -1) dX0_go_14 (by decide) ?_
      first | exact ret _ _ _ _ _ dX0_go_15 rfl (.inr ⟨.inl (hb.2 c_4), rfl, rfl, rfl⟩) | exact ret _ _ _ _ _ dX0_go_15 rfl (.inr ⟨.inr (ht.2 c_11), rfl, rfl, rfl⟩)
set_option maxHeartbeats 4000000 in
set_option maxRecDepth 100000 in
theorem x_branch (F : jF) (A : jA) (b v t u : Int32) : xMi yX0_branch cX0_branch 5 .int 1 [.int (b), .int (v), .int (t), .int (u)] F A (fun r F1 A1 => (∃ j a k e, j < 10 ∧ a < 4 ∧ k < 10 ∧ e < 10 ∧ b = nI j ∧ v = nI a ∧ t = nI k ∧ u = nI e ∧ r = nI 0 ∧ F1 = upd F 7 (nI 0) ∧ A1 = setE A j (nI a) (nI k) (nI e)) ∨ ((inb b 10 = false ∨ inb t 10 = false ∨ inb u 10 = false) ∧ r = -1 ∧ F1 = F ∧ A1 = A) ∨ (inb b 10 = true ∧ inb t 10 = true ∧ inb u 10 = true ∧ inb v 4 = false ∧ r = -2 ∧ F1 = F ∧ A1 = A)) := by
  refine xMi.intro (fun h => [some (.ref (h)), some (.int (b)), some (.int (v)), some (.int (t)), some (.int (u))]) (by decide) rfl (fun _ => rfl) (fun _ => rfl) (fun _ => Nat.le_of_ble_eq_true rfl) ?_
  intro g w C X ret
  show J g (xP w F A) 0 [some (.ref (xh w)), some (.int (b)), some (.int (v)), some (.int (t)), some (.int (u))] []
  refine j_iload_n C dX0_branch_0 rfl ?_
  refine x_callsp C X (x_bad F A (b)) (lw_S q115 q116 q18 q117) (n := 1) (by decide +kernel) rfl (by decide) (by decide) dX0_branch_1 rfl (Nat.le_of_ble_eq_true rfl) rfl (fun r_1 hb => ?_)
  refine j_if_ne C 22 dX0_branch_4 (by decide) (fun c_4 => ?_) (fun c_4 => ?_)
  · skip
    refine j_iconst C (v := -1) dX0_branch_22 (by decide) ?_
    first | exact ret _ _ _ _ _ dX0_branch_23 rfl (.inr (.inl ⟨.inl (hb.2 c_4), rfl, rfl, rfl⟩)) | exact ret _ _ _ _ _ dX0_branch_23 rfl (.inr (.inl ⟨.inr (.inl (ht.2 c_11)), rfl, rfl, rfl⟩)) | exact ret _ _ _ _ _ dX0_branch_23 rfl (.inr (.inl ⟨.inr (.inr (hu.2 c_19)), rfl, rfl, rfl⟩))
  · skip
    obtain ⟨j, hj, rfl⟩ := inb_in (n := 10) (by decide) (hb.1 c_4)
    refine j_iload_n C dX0_branch_7 rfl ?_
    refine x_callsp C X (x_bad F A (t)) (lw_S q115 q116 q18 q117) (n := 1) (by decide +kernel) rfl (by decide) (by decide) dX0_branch_8 rfl (Nat.le_of_ble_eq_true rfl) rfl (fun r_2 ht => ?_)
    refine j_if_ne C 22 dX0_branch_11 (by decide) (fun c_11 => ?_) (fun c_11 => ?_)
    · skip
      refine j_iconst C (v := -1) dX0_branch_22 (by decide) ?_
      first | exact ret _ _ _ _ _ dX0_branch_23 rfl (.inr (.inl ⟨.inl (hb.2 c_4), rfl, rfl, rfl⟩)) | exact ret _ _ _ _ _ dX0_branch_23 rfl (.inr (.inl ⟨.inr (.inl (ht.2 c_11)), rfl, rfl, rfl⟩)) | exact ret _ _ _ _ _ dX0_branch_23 rfl (.inr (.inl ⟨.inr (.inr (hu.2 c_19)), rfl, rfl, rfl⟩))
    · skip
      obtain ⟨k, hk, rfl⟩ := inb_in (n := 10) (by decide) (ht.1 c_11)
      refine j_iload C dX0_branch_14 rfl ?_
      refine x_callsp C X (x_bad F A (u)) (lw_S q115 q116 q18 q117) (n := 1) (by decide +kernel) rfl (by decide) (by decide) dX0_branch_16 rfl (Nat.le_of_ble_eq_true rfl) rfl (fun r_3 hu => ?_)
      refine j_if_eq C 24 dX0_branch_19 (by decide) (fun c_19 => ?_) (fun c_19 => ?_)
      · skip
        obtain ⟨e, he, rfl⟩ := inb_in (n := 10) (by decide) (hu.1 c_19)
        refine j_iload_n C dX0_branch_24 rfl ?_
        refine x_callsp C X (x_badVar F A (v)) (lw_S q118 q119 q18 q120) (n := 1) (by decide +kernel) rfl (by decide) (by decide) dX0_branch_25 rfl (Nat.le_of_ble_eq_true rfl) rfl (fun r_4 hv => ?_)
        refine j_if_eq C 34 dX0_branch_28 (by decide) (fun c_28 => ?_) (fun c_28 => ?_)
        · skip
          obtain ⟨a, ha, rfl⟩ := inb_in (n := 4) (by decide) (hv.1 c_28)
          refine j_aload_n C dX0_branch_34 rfl ?_
          refine j_iload_n C dX0_branch_35 rfl ?_
          refine j_iload_n C dX0_branch_36 rfl ?_
          refine j_iload_n C dX0_branch_37 rfl ?_
          refine j_iload C dX0_branch_38 rfl ?_
          refine x_callv C X (x_setEnd F A j hj (nI a) (nI k) (nI e)) (lw_V q129 q131 qs0 q18 q132) (n := 4) (by decide +kernel) rfl (by decide) (by decide) dX0_branch_40 rfl (Nat.le_of_ble_eq_true rfl) rfl (fun F_6 A_7 hse => ?_)
          refine j_iconst C (v := nI (0)) dX0_branch_43 (by decide) ?_
          exact ret _ _ _ _ _ dX0_branch_44 rfl (.inl ⟨j, a, k, e, hj, ha, hk, he, rfl, rfl, rfl, rfl, rfl, hse.1, hse.2⟩)
        · skip
          refine j_bipush C (v := -2) dX0_branch_31 (by decide) ?_
          exact ret _ _ _ _ _ dX0_branch_33 rfl (.inr (.inr ⟨inb_nI hj (by decide), inb_nI hk (by decide), inb_nI he (by decide), hv.2 c_28, rfl, rfl, rfl⟩))
      · skip
        refine j_iconst C (v := -1) dX0_branch_22 (by decide) ?_
        first | exact ret _ _ _ _ _ dX0_branch_23 rfl (.inr (.inl ⟨.inl (hb.2 c_4), rfl, rfl, rfl⟩)) | exact ret _ _ _ _ _ dX0_branch_23 rfl (.inr (.inl ⟨.inr (.inl (ht.2 c_11)), rfl, rfl, rfl⟩)) | exact ret _ _ _ _ _ dX0_branch_23 rfl (.inr (.inl ⟨.inr (.inr (hu.2 c_19)), rfl, rfl, rfl⟩))
end
section
set_option maxHeartbeats 4000000 in
set_option maxRecDepth 100000 in
theorem m_bad (F : jF) (A : jA) (b : Int32) : mMi yX1_bad cX1_bad 2 .boolean 0 [.int (b)] F A (fun r F1 A1 => F1 = F ∧ A1 = A ∧ ((r = 0 → inb b 10 = true) ∧ (¬ r = 0 → inb b 10 = false))) := by
  refine mMi.intro (fun h => [some (.ref (h)), some (.int (b))]) (by decide) rfl (fun _ => rfl) (fun _ => rfl) (fun _ => Nat.le_of_ble_eq_true rfl) ?_
  intro g w C X ret
  show J g (mP w F A) 0 [some (.ref (xh w)), some (.int (b))] []
  refine j_iload_n C dX1_bad_0 rfl ?_
  refine j_if_lt C 10 dX1_bad_1 (by decide) (fun c_1 => ?_) (fun c_1 => ?_)
  · skip
    refine j_iconst C (v := nI (1)) dX1_bad_10 (by decide) ?_
    refine j_goto C 15 dX1_bad_11 (by decide) ?_
    exact ret _ _ _ _ _ dX1_bad_15 rfl ⟨rfl, rfl, by first | exact ⟨fun hh => absurd hh (by decide), fun _ => inb_f1 c_1⟩ | exact ⟨fun hh => absurd hh (by decide), fun _ => inb_f2 (fun hh => c_7 ((le_lt_succ (by decide)).mpr hh))⟩ | exact ⟨fun _ => inb_t c_1 ((le_lt_succ (by decide)).mp c_7), fun hh => absurd rfl hh⟩⟩
  · skip
    refine j_iload_n C dX1_bad_4 rfl ?_
    refine j_bipush C (v := nI (9)) dX1_bad_5 (by decide) ?_
    refine j_icmp_le C 14 dX1_bad_7 (by decide) (fun c_7 => ?_) (fun c_7 => ?_)
    · skip
      refine j_iconst C (v := nI (0)) dX1_bad_14 (by decide) ?_
      exact ret _ _ _ _ _ dX1_bad_15 rfl ⟨rfl, rfl, by first | exact ⟨fun hh => absurd hh (by decide), fun _ => inb_f1 c_1⟩ | exact ⟨fun hh => absurd hh (by decide), fun _ => inb_f2 (fun hh => c_7 ((le_lt_succ (by decide)).mpr hh))⟩ | exact ⟨fun _ => inb_t c_1 ((le_lt_succ (by decide)).mp c_7), fun hh => absurd rfl hh⟩⟩
    · skip
      refine j_iconst C (v := nI (1)) dX1_bad_10 (by decide) ?_
      refine j_goto C 15 dX1_bad_11 (by decide) ?_
      exact ret _ _ _ _ _ dX1_bad_15 rfl ⟨rfl, rfl, by first | exact ⟨fun hh => absurd hh (by decide), fun _ => inb_f1 c_1⟩ | exact ⟨fun hh => absurd hh (by decide), fun _ => inb_f2 (fun hh => c_7 ((le_lt_succ (by decide)).mpr hh))⟩ | exact ⟨fun _ => inb_t c_1 ((le_lt_succ (by decide)).mp c_7), fun hh => absurd rfl hh⟩⟩
set_option maxHeartbeats 4000000 in
set_option maxRecDepth 100000 in
theorem m_badVariable (F : jF) (A : jA) (b : Int32) : mMi yX1_badVariable cX1_badVariable 2 .boolean 0 [.int (b)] F A (fun r F1 A1 => F1 = F ∧ A1 = A ∧ ((r = 0 → inb b 4 = true) ∧ (¬ r = 0 → inb b 4 = false))) := by
  refine mMi.intro (fun h => [some (.ref (h)), some (.int (b))]) (by decide) rfl (fun _ => rfl) (fun _ => rfl) (fun _ => Nat.le_of_ble_eq_true rfl) ?_
  intro g w C X ret
  show J g (mP w F A) 0 [some (.ref (xh w)), some (.int (b))] []
  refine j_iload_n C dX1_badVariable_0 rfl ?_
  refine j_if_lt C 9 dX1_badVariable_1 (by decide) (fun c_1 => ?_) (fun c_1 => ?_)
  · skip
    refine j_iconst C (v := nI (1)) dX1_badVariable_9 (by decide) ?_
    refine j_goto C 14 dX1_badVariable_10 (by decide) ?_
    exact ret _ _ _ _ _ dX1_badVariable_14 rfl ⟨rfl, rfl, by first | exact ⟨fun hh => absurd hh (by decide), fun _ => inb_f1 c_1⟩ | exact ⟨fun hh => absurd hh (by decide), fun _ => inb_f2 (fun hh => c_6 ((le_lt_succ (by decide)).mpr hh))⟩ | exact ⟨fun _ => inb_t c_1 ((le_lt_succ (by decide)).mp c_6), fun hh => absurd rfl hh⟩⟩
  · skip
    refine j_iload_n C dX1_badVariable_4 rfl ?_
    refine j_iconst C (v := nI (3)) dX1_badVariable_5 (by decide) ?_
    refine j_icmp_le C 13 dX1_badVariable_6 (by decide) (fun c_6 => ?_) (fun c_6 => ?_)
    · skip
      refine j_iconst C (v := nI (0)) dX1_badVariable_13 (by decide) ?_
      exact ret _ _ _ _ _ dX1_badVariable_14 rfl ⟨rfl, rfl, by first | exact ⟨fun hh => absurd hh (by decide), fun _ => inb_f1 c_1⟩ | exact ⟨fun hh => absurd hh (by decide), fun _ => inb_f2 (fun hh => c_6 ((le_lt_succ (by decide)).mpr hh))⟩ | exact ⟨fun _ => inb_t c_1 ((le_lt_succ (by decide)).mp c_6), fun hh => absurd rfl hh⟩⟩
    · skip
      refine j_iconst C (v := nI (1)) dX1_badVariable_9 (by decide) ?_
      refine j_goto C 14 dX1_badVariable_10 (by decide) ?_
      exact ret _ _ _ _ _ dX1_badVariable_14 rfl ⟨rfl, rfl, by first | exact ⟨fun hh => absurd hh (by decide), fun _ => inb_f1 c_1⟩ | exact ⟨fun hh => absurd hh (by decide), fun _ => inb_f2 (fun hh => c_6 ((le_lt_succ (by decide)).mpr hh))⟩ | exact ⟨fun _ => inb_t c_1 ((le_lt_succ (by decide)).mp c_6), fun hh => absurd rfl hh⟩⟩
set_option maxHeartbeats 4000000 in
set_option maxRecDepth 100000 in
theorem m_assign (F : jF) (A : jA) (b op v wd : Int32) (hsz : ∀ j, j < 10 → ∃ s, s ≤ 3 ∧ A 0 j = nI s) : mMi yX1_assign cX1_assign 6 .int 1 [.int (b), .int (op), .int (v), .int (wd)] F A (fun r F1 A1 => F1 = F ∧ r = asgC b op v wd (A 0 b.toNatClampNeg) ∧ A1 = asgA A b op v wd) := by
  refine mMi.intro (fun h => [some (.ref (h)), some (.int (b)), some (.int (op)), some (.int (v)), some (.int (wd)), none]) (by decide) rfl (fun _ => rfl) (fun _ => rfl) (fun _ => Nat.le_of_ble_eq_true rfl) ?_
  intro g w C X ret
  show J g (mP w F A) 0 [some (.ref (xh w)), some (.int (b)), some (.int (op)), some (.int (v)), some (.int (wd)), none] []
  refine j_aload_n C dX1_assign_0 rfl ?_
  refine j_iload_n C dX1_assign_1 rfl ?_
  refine m_callip C X (m_bad F A (b)) (lw_V q267 q269 qs12 q19 q270) (n := 1) (by decide +kernel) rfl (by decide) (by decide) dX1_assign_2 rfl (Nat.le_of_ble_eq_true rfl) rfl (fun r_1 hb => ?_)
  refine j_if_eq C 10 dX1_assign_5 (by decide) (fun c_5 => ?_) (fun c_5 => ?_)
  · skip
    obtain ⟨j, hj, rfl⟩ := inb_in (n := 10) (by decide) (hb.1 c_5)
    refine j_iload_n C dX1_assign_10 rfl ?_
    refine j_if_lt C 19 dX1_assign_11 (by decide) (fun c_11 => ?_) (fun c_11 => ?_)
    · skip
      have ho : inb op 6 = false := by first | exact inb_f1 c_11 | exact inb_f2 (fun hh => c_16 ((le_lt_succ (by decide)).mpr hh))
      refine j_bipush C (v := -3) dX1_assign_19 (by decide) ?_
      exact ret _ _ _ _ _ dX1_assign_21 rfl ⟨rfl, (asgC_2 (inb_nI hj (by decide)) ho).symm, (asgA_no (by rw [asgC_2 (inb_nI hj (by decide)) ho]; decide)).symm⟩
    · skip
      refine j_iload_n C dX1_assign_14 rfl ?_
      refine j_iconst C (v := nI (5)) dX1_assign_15 (by decide) ?_
      refine j_icmp_le C 22 dX1_assign_16 (by decide) (fun c_16 => ?_) (fun c_16 => ?_)
      · skip
        have ho : inb op 6 = true := inb_t c_11 ((le_lt_succ (by decide)).mp c_16)
        refine j_aload_n C dX1_assign_22 rfl ?_
        refine j_iload_n C dX1_assign_23 rfl ?_
        refine m_callip C X (m_badVariable F A (v)) (lw_V q271 q273 qs13 q19 q274) (n := 1) (by decide +kernel) rfl (by decide) (by decide) dX1_assign_24 rfl (Nat.le_of_ble_eq_true rfl) rfl (fun r_2 hv1 => ?_)
        refine j_if_ne C 49 dX1_assign_27 (by decide) (fun c_27 => ?_) (fun c_27 => ?_)
        · skip
          have h3 : inb v 4 = false ∨ (¬ op < nI 1 ∧ ¬ nI 3 < op ∧ inb wd 4 = false) := by first | exact .inl (hv1.2 c_27) | exact .inr ⟨c_32, c_37, hw1.2 c_46⟩
          refine j_bipush C (v := -2) dX1_assign_49 (by decide) ?_
          exact ret _ _ _ _ _ dX1_assign_51 rfl ⟨rfl, (asgC_3 (inb_nI hj (by decide)) ho h3).symm, (asgA_no (by rw [asgC_3 (inb_nI hj (by decide)) ho h3]; decide)).symm⟩
        · skip
          refine j_iload_n C dX1_assign_30 rfl ?_
          refine j_iconst C (v := nI (1)) dX1_assign_31 (by decide) ?_
          refine j_icmp_lt C 52 dX1_assign_32 (by decide) (fun c_32 => ?_) (fun c_32 => ?_)
          · skip
            have hv2 : inb v 4 = true := hv1.1 c_27
            have h4 : (op < nI 1 ∨ nI 3 < op) ∨ inb wd 4 = true := by first | exact .inl (.inl c_32) | exact .inl (.inr c_37) | exact .inr (hw1.1 c_46)
            obtain ⟨s, hs, es⟩ := hsz j hj
            have ej : (nI j).toNatClampNeg = j := nI_clamp (by omega)
            refine j_aload_n C dX1_assign_52 rfl ?_
            refine m_get_counts C X dX1_assign_53 ?_
            refine j_iload_n C dX1_assign_56 rfl ?_
            refine m_ald_counts (v := nI (s)) (j) C X dX1_assign_57 rfl (by omega) (es) ?_
            refine j_istore C (L' := [some (.ref (xh w)), some (.int (nI j)), some (.int (op)), some (.int (v)), some (.int (wd)), some (.int (nI s))]) dX1_assign_58 (Nat.le_of_ble_eq_true rfl) rfl rfl ?_
            refine j_iload C dX1_assign_60 rfl ?_
            refine j_iconst C (v := nI (3)) dX1_assign_62 (by decide) ?_
            refine j_icmp_ne C 69 dX1_assign_63 (by decide) (fun c_63 => ?_) (fun c_63 => ?_)
            · skip
              have c_63 : ¬ (s = 3) := fun hh => c_63 ((nI_eq (a := s) (b := 3) (by omega) (by omega)).mpr hh)
              refine j_aload_n C dX1_assign_69 rfl ?_
              refine m_get_ops C X dX1_assign_70 ?_
              refine j_iload_n C dX1_assign_73 rfl ?_
              refine j_iconst C (v := nI (3)) dX1_assign_74 (by decide) ?_
              refine j_imul C (v := nI (j * 3)) dX1_assign_75 (pk_mul _ _) ?_
              refine j_iload C dX1_assign_76 rfl ?_
              refine j_iadd C (v := nI ((j * 3) + s)) dX1_assign_78 (nI_add _ _) ?_
              refine j_iload_n C dX1_assign_79 rfl ?_
              obtain ⟨A_3, eA_3⟩ : ∃ Z, va_up A 1 (upd (A 1) ((j * 3) + s) (op)) = Z := ⟨_, rfl⟩
              refine m_ast_ops ((j * 3) + s) C X dX1_assign_80 rfl (by omega) eA_3 ?_
              refine j_aload_n C dX1_assign_81 rfl ?_
              refine m_get_vs C X dX1_assign_82 ?_
              refine j_iload_n C dX1_assign_85 rfl ?_
              refine j_iconst C (v := nI (3)) dX1_assign_86 (by decide) ?_
              refine j_imul C (v := nI (j * 3)) dX1_assign_87 (pk_mul _ _) ?_
              refine j_iload C dX1_assign_88 rfl ?_
              refine j_iadd C (v := nI ((j * 3) + s)) dX1_assign_90 (nI_add _ _) ?_
              refine j_iload_n C dX1_assign_91 rfl ?_
              obtain ⟨A_4, eA_4⟩ : ∃ Z, va_up A_3 2 (upd (A_3 2) ((j * 3) + s) (v)) = Z := ⟨_, rfl⟩
              refine m_ast_vs ((j * 3) + s) C X dX1_assign_92 rfl (by omega) eA_4 ?_
              refine j_aload_n C dX1_assign_93 rfl ?_
              refine m_get_ws C X dX1_assign_94 ?_
              refine j_iload_n C dX1_assign_97 rfl ?_
              refine j_iconst C (v := nI (3)) dX1_assign_98 (by decide) ?_
              refine j_imul C (v := nI (j * 3)) dX1_assign_99 (pk_mul _ _) ?_
              refine j_iload C dX1_assign_100 rfl ?_
              refine j_iadd C (v := nI ((j * 3) + s)) dX1_assign_102 (nI_add _ _) ?_
              refine j_iload C dX1_assign_103 rfl ?_
              obtain ⟨A_5, eA_5⟩ : ∃ Z, va_up A_4 3 (upd (A_4 3) ((j * 3) + s) (wd)) = Z := ⟨_, rfl⟩
              refine m_ast_ws ((j * 3) + s) C X dX1_assign_105 rfl (by omega) eA_5 ?_
              refine j_aload_n C dX1_assign_106 rfl ?_
              refine m_get_counts C X dX1_assign_107 ?_
              refine j_iload_n C dX1_assign_110 rfl ?_
              refine j_iload C dX1_assign_111 rfl ?_
              refine j_iconst C (v := nI (1)) dX1_assign_113 (by decide) ?_
              refine j_iadd C (v := nI (s + 1)) dX1_assign_114 (nI_add _ _) ?_
              obtain ⟨A_6, eA_6⟩ : ∃ Z, va_up A_5 0 (upd (A_5 0) (j) (nI (s + 1))) = Z := ⟨_, rfl⟩
              refine m_ast_counts (j) C X dX1_assign_115 rfl (by omega) eA_6 ?_
              refine j_iload C dX1_assign_116 rfl ?_
              refine j_iconst C (v := nI (1)) dX1_assign_118 (by decide) ?_
              refine j_iadd C (v := nI (s + 1)) dX1_assign_119 (nI_add _ _) ?_
              exact ret _ _ _ _ _ dX1_assign_120 rfl ⟨rfl, (asgA_yes hj (by omega) es ho hv2 h4).1.symm, by subst eA_6; subst eA_5; subst eA_4; subst eA_3; exact (asgA_yes hj (by omega) es ho hv2 h4).2.symm⟩
            · skip
              have c_63 : s = 3 := (nI_eq (a := s) (b := 3) (by omega) (by omega)).mp c_63
              refine j_bipush C (v := -4) dX1_assign_66 (by decide) ?_
              exact ret _ _ _ _ _ dX1_assign_68 rfl ⟨rfl, (asgC_4 (inb_nI hj (by decide)) ho hv2 h4 (by rw [ej, es]; exact nI_nlt (by omega) (by omega))).symm, (asgA_no (by rw [asgC_4 (inb_nI hj (by decide)) ho hv2 h4 (by rw [ej, es]; exact nI_nlt (by omega) (by omega))]; decide)).symm⟩
          · skip
            refine j_iload_n C dX1_assign_35 rfl ?_
            refine j_iconst C (v := nI (3)) dX1_assign_36 (by decide) ?_
            refine j_icmp_gt C 52 dX1_assign_37 (by decide) (fun c_37 => ?_) (fun c_37 => ?_)
            · skip
              have hv2 : inb v 4 = true := hv1.1 c_27
              have h4 : (op < nI 1 ∨ nI 3 < op) ∨ inb wd 4 = true := by first | exact .inl (.inl c_32) | exact .inl (.inr c_37) | exact .inr (hw1.1 c_46)
              obtain ⟨s, hs, es⟩ := hsz j hj
              have ej : (nI j).toNatClampNeg = j := nI_clamp (by omega)
              refine j_aload_n C dX1_assign_52 rfl ?_
              refine m_get_counts C X dX1_assign_53 ?_
              refine j_iload_n C dX1_assign_56 rfl ?_
              refine m_ald_counts (v := nI (s)) (j) C X dX1_assign_57 rfl (by omega) (es) ?_
              refine j_istore C (L' := [some (.ref (xh w)), some (.int (nI j)), some (.int (op)), some (.int (v)), some (.int (wd)), some (.int (nI s))]) dX1_assign_58 (Nat.le_of_ble_eq_true rfl) rfl rfl ?_
              refine j_iload C dX1_assign_60 rfl ?_
              refine j_iconst C (v := nI (3)) dX1_assign_62 (by decide) ?_
              refine j_icmp_ne C 69 dX1_assign_63 (by decide) (fun c_63 => ?_) (fun c_63 => ?_)
              · skip
                have c_63 : ¬ (s = 3) := fun hh => c_63 ((nI_eq (a := s) (b := 3) (by omega) (by omega)).mpr hh)
                refine j_aload_n C dX1_assign_69 rfl ?_
                refine m_get_ops C X dX1_assign_70 ?_
                refine j_iload_n C dX1_assign_73 rfl ?_
                refine j_iconst C (v := nI (3)) dX1_assign_74 (by decide) ?_
                refine j_imul C (v := nI (j * 3)) dX1_assign_75 (pk_mul _ _) ?_
                refine j_iload C dX1_assign_76 rfl ?_
                refine j_iadd C (v := nI ((j * 3) + s)) dX1_assign_78 (nI_add _ _) ?_
                refine j_iload_n C dX1_assign_79 rfl ?_
                obtain ⟨A_7, eA_7⟩ : ∃ Z, va_up A 1 (upd (A 1) ((j * 3) + s) (op)) = Z := ⟨_, rfl⟩
                refine m_ast_ops ((j * 3) + s) C X dX1_assign_80 rfl (by omega) eA_7 ?_
                refine j_aload_n C dX1_assign_81 rfl ?_
                refine m_get_vs C X dX1_assign_82 ?_
                refine j_iload_n C dX1_assign_85 rfl ?_
                refine j_iconst C (v := nI (3)) dX1_assign_86 (by decide) ?_
                refine j_imul C (v := nI (j * 3)) dX1_assign_87 (pk_mul _ _) ?_
                refine j_iload C dX1_assign_88 rfl ?_
                refine j_iadd C (v := nI ((j * 3) + s)) dX1_assign_90 (nI_add _ _) ?_
                refine j_iload_n C dX1_assign_91 rfl ?_
                obtain ⟨A_8, eA_8⟩ : ∃ Z, va_up A_7 2 (upd (A_7 2) ((j * 3) + s) (v)) = Z := ⟨_, rfl⟩
                refine m_ast_vs ((j * 3) + s) C X dX1_assign_92 rfl (by omega) eA_8 ?_
                refine j_aload_n C dX1_assign_93 rfl ?_
                refine m_get_ws C X dX1_assign_94 ?_
                refine j_iload_n C dX1_assign_97 rfl ?_
                refine j_iconst C (v := nI (3)) dX1_assign_98 (by decide) ?_
                refine j_imul C (v := nI (j * 3)) dX1_assign_99 (pk_mul _ _) ?_
                refine j_iload C dX1_assign_100 rfl ?_
                refine j_iadd C (v := nI ((j * 3) + s)) dX1_assign_102 (nI_add _ _) ?_
                refine j_iload C dX1_assign_103 rfl ?_
                obtain ⟨A_9, eA_9⟩ : ∃ Z, va_up A_8 3 (upd (A_8 3) ((j * 3) + s) (wd)) = Z := ⟨_, rfl⟩
                refine m_ast_ws ((j * 3) + s) C X dX1_assign_105 rfl (by omega) eA_9 ?_
                refine j_aload_n C dX1_assign_106 rfl ?_
                refine m_get_counts C X dX1_assign_107 ?_
                refine j_iload_n C dX1_assign_110 rfl ?_
                refine j_iload C dX1_assign_111 rfl ?_
                refine j_iconst C (v := nI (1)) dX1_assign_113 (by decide) ?_
                refine j_iadd C (v := nI (s + 1)) dX1_assign_114 (nI_add _ _) ?_
                obtain ⟨A_10, eA_10⟩ : ∃ Z, va_up A_9 0 (upd (A_9 0) (j) (nI (s + 1))) = Z := ⟨_, rfl⟩
                refine m_ast_counts (j) C X dX1_assign_115 rfl (by omega) eA_10 ?_
                refine j_iload C dX1_assign_116 rfl ?_
                refine j_iconst C (v := nI (1)) dX1_assign_118 (by decide) ?_
                refine j_iadd C (v := nI (s + 1)) dX1_assign_119 (nI_add _ _) ?_
                exact ret _ _ _ _ _ dX1_assign_120 rfl ⟨rfl, (asgA_yes hj (by omega) es ho hv2 h4).1.symm, by subst eA_10; subst eA_9; subst eA_8; subst eA_7; exact (asgA_yes hj (by omega) es ho hv2 h4).2.symm⟩
              · skip
                have c_63 : s = 3 := (nI_eq (a := s) (b := 3) (by omega) (by omega)).mp c_63
                refine j_bipush C (v := -4) dX1_assign_66 (by decide) ?_
                exact ret _ _ _ _ _ dX1_assign_68 rfl ⟨rfl, (asgC_4 (inb_nI hj (by decide)) ho hv2 h4 (by rw [ej, es]; exact nI_nlt (by omega) (by omega))).symm, (asgA_no (by rw [asgC_4 (inb_nI hj (by decide)) ho hv2 h4 (by rw [ej, es]; exact nI_nlt (by omega) (by omega))]; decide)).symm⟩
            · skip
              refine j_aload_n C dX1_assign_40 rfl ?_
              refine j_iload C dX1_assign_41 rfl ?_
              refine m_callip C X (m_badVariable F A (wd)) (lw_V q271 q273 qs13 q19 q274) (n := 1) (by decide +kernel) rfl (by decide) (by decide) dX1_assign_43 rfl (Nat.le_of_ble_eq_true rfl) rfl (fun r_11 hw1 => ?_)
              refine j_if_eq C 52 dX1_assign_46 (by decide) (fun c_46 => ?_) (fun c_46 => ?_)
              · skip
                have hv2 : inb v 4 = true := hv1.1 c_27
                have h4 : (op < nI 1 ∨ nI 3 < op) ∨ inb wd 4 = true := by first | exact .inl (.inl c_32) | exact .inl (.inr c_37) | exact .inr (hw1.1 c_46)
                obtain ⟨s, hs, es⟩ := hsz j hj
                have ej : (nI j).toNatClampNeg = j := nI_clamp (by omega)
                refine j_aload_n C dX1_assign_52 rfl ?_
                refine m_get_counts C X dX1_assign_53 ?_
                refine j_iload_n C dX1_assign_56 rfl ?_
                refine m_ald_counts (v := nI (s)) (j) C X dX1_assign_57 rfl (by omega) (es) ?_
                refine j_istore C (L' := [some (.ref (xh w)), some (.int (nI j)), some (.int (op)), some (.int (v)), some (.int (wd)), some (.int (nI s))]) dX1_assign_58 (Nat.le_of_ble_eq_true rfl) rfl rfl ?_
                refine j_iload C dX1_assign_60 rfl ?_
                refine j_iconst C (v := nI (3)) dX1_assign_62 (by decide) ?_
                refine j_icmp_ne C 69 dX1_assign_63 (by decide) (fun c_63 => ?_) (fun c_63 => ?_)
                · skip
                  have c_63 : ¬ (s = 3) := fun hh => c_63 ((nI_eq (a := s) (b := 3) (by omega) (by omega)).mpr hh)
                  refine j_aload_n C dX1_assign_69 rfl ?_
                  refine m_get_ops C X dX1_assign_70 ?_
                  refine j_iload_n C dX1_assign_73 rfl ?_
                  refine j_iconst C (v := nI (3)) dX1_assign_74 (by decide) ?_
                  refine j_imul C (v := nI (j * 3)) dX1_assign_75 (pk_mul _ _) ?_
                  refine j_iload C dX1_assign_76 rfl ?_
                  refine j_iadd C (v := nI ((j * 3) + s)) dX1_assign_78 (nI_add _ _) ?_
                  refine j_iload_n C dX1_assign_79 rfl ?_
                  obtain ⟨A_12, eA_12⟩ : ∃ Z, va_up A 1 (upd (A 1) ((j * 3) + s) (op)) = Z := ⟨_, rfl⟩
                  refine m_ast_ops ((j * 3) + s) C X dX1_assign_80 rfl (by omega) eA_12 ?_
                  refine j_aload_n C dX1_assign_81 rfl ?_
                  refine m_get_vs C X dX1_assign_82 ?_
                  refine j_iload_n C dX1_assign_85 rfl ?_
                  refine j_iconst C (v := nI (3)) dX1_assign_86 (by decide) ?_
                  refine j_imul C (v := nI (j * 3)) dX1_assign_87 (pk_mul _ _) ?_
                  refine j_iload C dX1_assign_88 rfl ?_
                  refine j_iadd C (v := nI ((j * 3) + s)) dX1_assign_90 (nI_add _ _) ?_
                  refine j_iload_n C dX1_assign_91 rfl ?_
                  obtain ⟨A_13, eA_13⟩ : ∃ Z, va_up A_12 2 (upd (A_12 2) ((j * 3) + s) (v)) = Z := ⟨_, rfl⟩
                  refine m_ast_vs ((j * 3) + s) C X dX1_assign_92 rfl (by omega) eA_13 ?_
                  refine j_aload_n C dX1_assign_93 rfl ?_
                  refine m_get_ws C X dX1_assign_94 ?_
                  refine j_iload_n C dX1_assign_97 rfl ?_
                  refine j_iconst C (v := nI (3)) dX1_assign_98 (by decide) ?_
                  refine j_imul C (v := nI (j * 3)) dX1_assign_99 (pk_mul _ _) ?_
                  refine j_iload C dX1_assign_100 rfl ?_
                  refine j_iadd C (v := nI ((j * 3) + s)) dX1_assign_102 (nI_add _ _) ?_
                  refine j_iload C dX1_assign_103 rfl ?_
                  obtain ⟨A_14, eA_14⟩ : ∃ Z, va_up A_13 3 (upd (A_13 3) ((j * 3) + s) (wd)) = Z := ⟨_, rfl⟩
                  refine m_ast_ws ((j * 3) + s) C X dX1_assign_105 rfl (by omega) eA_14 ?_
                  refine j_aload_n C dX1_assign_106 rfl ?_
                  refine m_get_counts C X dX1_assign_107 ?_
                  refine j_iload_n C dX1_assign_110 rfl ?_
                  refine j_iload C dX1_assign_111 rfl ?_
                  refine j_iconst C (v := nI (1)) dX1_assign_113 (by decide) ?_
                  refine j_iadd C (v := nI (s + 1)) dX1_assign_114 (nI_add _ _) ?_
                  obtain ⟨A_15, eA_15⟩ : ∃ Z, va_up A_14 0 (upd (A_14 0) (j) (nI (s + 1))) = Z := ⟨_, rfl⟩
                  refine m_ast_counts (j) C X dX1_assign_115 rfl (by omega) eA_15 ?_
                  refine j_iload C dX1_assign_116 rfl ?_
                  refine j_iconst C (v := nI (1)) dX1_assign_118 (by decide) ?_
                  refine j_iadd C (v := nI (s + 1)) dX1_assign_119 (nI_add _ _) ?_
                  exact ret _ _ _ _ _ dX1_assign_120 rfl ⟨rfl, (asgA_yes hj (by omega) es ho hv2 h4).1.symm, by subst eA_15; subst eA_14; subst eA_13; subst eA_12; exact (asgA_yes hj (by omega) es ho hv2 h4).2.symm⟩
                · skip
                  have c_63 : s = 3 := (nI_eq (a := s) (b := 3) (by omega) (by omega)).mp c_63
                  refine j_bipush C (v := -4) dX1_assign_66 (by decide) ?_
                  exact ret _ _ _ _ _ dX1_assign_68 rfl ⟨rfl, (asgC_4 (inb_nI hj (by decide)) ho hv2 h4 (by rw [ej, es]; exact nI_nlt (by omega) (by omega))).symm, (asgA_no (by rw [asgC_4 (inb_nI hj (by decide)) ho hv2 h4 (by rw [ej, es]; exact nI_nlt (by omega) (by omega))]; decide)).symm⟩
              · skip
                have h3 : inb v 4 = false ∨ (¬ op < nI 1 ∧ ¬ nI 3 < op ∧ inb wd 4 = false) := by first | exact .inl (hv1.2 c_27) | exact .inr ⟨c_32, c_37, hw1.2 c_46⟩
                refine j_bipush C (v := -2) dX1_assign_49 (by decide) ?_
                exact ret _ _ _ _ _ dX1_assign_51 rfl ⟨rfl, (asgC_3 (inb_nI hj (by decide)) ho h3).symm, (asgA_no (by rw [asgC_3 (inb_nI hj (by decide)) ho h3]; decide)).symm⟩
      · skip
        have ho : inb op 6 = false := by first | exact inb_f1 c_11 | exact inb_f2 (fun hh => c_16 ((le_lt_succ (by decide)).mpr hh))
        refine j_bipush C (v := -3) dX1_assign_19 (by decide) ?_
        exact ret _ _ _ _ _ dX1_assign_21 rfl ⟨rfl, (asgC_2 (inb_nI hj (by decide)) ho).symm, (asgA_no (by rw [asgC_2 (inb_nI hj (by decide)) ho]; decide)).symm⟩
  · skip
    refine j_iconst C (v := -1) dX1_assign_8 (by decide) ?_
    exact ret _ _ _ _ _ dX1_assign_9 rfl ⟨rfl, (asgC_1 (hb.2 c_5)).symm, (asgA_no (by rw [asgC_1 (hb.2 c_5)]; decide)).symm⟩
set_option maxHeartbeats 4000000 in
set_option maxRecDepth 100000 in
theorem m_empty (F : jF) (A : jA) (b : Int32) : mMi yX1_empty cX1_empty 3 .int 1 [.int (b)] F A (fun r F1 A1 => F1 = F ∧ ((∃ j, j < 10 ∧ b = nI j ∧ r = A 0 j ∧ A1 = va_up A 0 (upd (A 0) j (nI 0))) ∨ (inb b 10 = false ∧ r = -1 ∧ A1 = A))) := by
  refine mMi.intro (fun h => [some (.ref (h)), some (.int (b)), none]) (by decide) rfl (fun _ => rfl) (fun _ => rfl) (fun _ => Nat.le_of_ble_eq_true rfl) ?_
  intro g w C X ret
  show J g (mP w F A) 0 [some (.ref (xh w)), some (.int (b)), none] []
  refine j_aload_n C dX1_empty_0 rfl ?_
  refine j_iload_n C dX1_empty_1 rfl ?_
  refine m_callip C X (m_bad F A (b)) (lw_V q267 q269 qs12 q19 q270) (n := 1) (by decide +kernel) rfl (by decide) (by decide) dX1_empty_2 rfl (Nat.le_of_ble_eq_true rfl) rfl (fun r_1 hb => ?_)
  refine j_if_eq C 10 dX1_empty_5 (by decide) (fun c_5 => ?_) (fun c_5 => ?_)
  · skip
    obtain ⟨j, hj, rfl⟩ := inb_in (n := 10) (by decide) (hb.1 c_5)
    refine j_aload_n C dX1_empty_10 rfl ?_
    refine m_get_counts C X dX1_empty_11 ?_
    refine j_iload_n C dX1_empty_14 rfl ?_
    refine m_ald_counts (v := A 0 j) (j) C X dX1_empty_15 rfl (by omega) (rfl) ?_
    refine j_istore_n C (L' := [some (.ref (xh w)), some (.int (nI j)), some (.int (A 0 j))]) dX1_empty_16 (Nat.le_of_ble_eq_true rfl) rfl rfl ?_
    refine j_aload_n C dX1_empty_17 rfl ?_
    refine m_get_counts C X dX1_empty_18 ?_
    refine j_iload_n C dX1_empty_21 rfl ?_
    refine j_iconst C (v := nI (0)) dX1_empty_22 (by decide) ?_
    obtain ⟨A_2, eA_2⟩ : ∃ Z, va_up A 0 (upd (A 0) (j) (nI (0))) = Z := ⟨_, rfl⟩
    refine m_ast_counts (j) C X dX1_empty_23 rfl (by omega) eA_2 ?_
    refine j_iload_n C dX1_empty_24 rfl ?_
    exact ret _ _ _ _ _ dX1_empty_25 rfl ⟨rfl, .inl ⟨j, hj, rfl, rfl, by subst eA_2; rfl⟩⟩
  · skip
    refine j_iconst C (v := -1) dX1_empty_8 (by decide) ?_
    exact ret _ _ _ _ _ dX1_empty_9 rfl ⟨rfl, .inr ⟨hb.2 c_5, rfl, rfl⟩⟩
set_option maxHeartbeats 4000000 in
set_option maxRecDepth 100000 in
theorem m_set (F : jF) (A : jA) (v val : Int32) : mMi yX1_set cX1_set 3 .int 1 [.int (v), .int (val)] F A (fun r F1 A1 => F1 = F ∧ ((∃ j, j < 4 ∧ v = nI j ∧ r = nI 0 ∧ A1 = va_up A 8 (upd (A 8) j val)) ∨ (inb v 4 = false ∧ r = -2 ∧ A1 = A))) := by
  refine mMi.intro (fun h => [some (.ref (h)), some (.int (v)), some (.int (val))]) (by decide) rfl (fun _ => rfl) (fun _ => rfl) (fun _ => Nat.le_of_ble_eq_true rfl) ?_
  intro g w C X ret
  show J g (mP w F A) 0 [some (.ref (xh w)), some (.int (v)), some (.int (val))] []
  refine j_aload_n C dX1_set_0 rfl ?_
  refine j_iload_n C dX1_set_1 rfl ?_
  refine m_callip C X (m_badVariable F A (v)) (lw_V q271 q273 qs13 q19 q274) (n := 1) (by decide +kernel) rfl (by decide) (by decide) dX1_set_2 rfl (Nat.le_of_ble_eq_true rfl) rfl (fun r_1 hb => ?_)
  refine j_if_eq C 11 dX1_set_5 (by decide) (fun c_5 => ?_) (fun c_5 => ?_)
  · skip
    obtain ⟨j, hj, rfl⟩ := inb_in (n := 4) (by decide) (hb.1 c_5)
    refine j_aload_n C dX1_set_11 rfl ?_
    refine m_get_vars C X dX1_set_12 ?_
    refine j_iload_n C dX1_set_15 rfl ?_
    refine j_iload_n C dX1_set_16 rfl ?_
    obtain ⟨A_2, eA_2⟩ : ∃ Z, va_up A 8 (upd (A 8) (j) (val)) = Z := ⟨_, rfl⟩
    refine m_ast_vars (j) C X dX1_set_17 rfl (by omega) eA_2 ?_
    refine j_iconst C (v := nI (0)) dX1_set_18 (by decide) ?_
    exact ret _ _ _ _ _ dX1_set_19 rfl ⟨rfl, .inl ⟨j, hj, rfl, rfl, by subst eA_2; rfl⟩⟩
  · skip
    refine j_bipush C (v := -2) dX1_set_8 (by decide) ?_
    exact ret _ _ _ _ _ dX1_set_10 rfl ⟨rfl, .inr ⟨hb.2 c_5, rfl, rfl⟩⟩
set_option maxHeartbeats 4000000 in
set_option maxRecDepth 100000 in
theorem m_get (F : jF) (A : jA) (v : Int32) : mMi yX1_get cX1_get 2 .int 1 [.int (v)] F A (fun r F1 A1 => F1 = F ∧ A1 = A ∧ ((∃ j, j < 4 ∧ v = nI j ∧ r = A 8 j) ∨ (inb v 4 = false ∧ r = nI 0))) := by
  refine mMi.intro (fun h => [some (.ref (h)), some (.int (v))]) (by decide) rfl (fun _ => rfl) (fun _ => rfl) (fun _ => Nat.le_of_ble_eq_true rfl) ?_
  intro g w C X ret
  show J g (mP w F A) 0 [some (.ref (xh w)), some (.int (v))] []
  refine j_aload_n C dX1_get_0 rfl ?_
  refine j_iload_n C dX1_get_1 rfl ?_
  refine m_callip C X (m_badVariable F A (v)) (lw_V q271 q273 qs13 q19 q274) (n := 1) (by decide +kernel) rfl (by decide) (by decide) dX1_get_2 rfl (Nat.le_of_ble_eq_true rfl) rfl (fun r_1 hb => ?_)
  refine j_if_eq C 12 dX1_get_5 (by decide) (fun c_5 => ?_) (fun c_5 => ?_)
  · skip
    obtain ⟨j, hj, rfl⟩ := inb_in (n := 4) (by decide) (hb.1 c_5)
    refine j_aload_n C dX1_get_12 rfl ?_
    refine m_get_vars C X dX1_get_13 ?_
    refine j_iload_n C dX1_get_16 rfl ?_
    refine m_ald_vars (v := A 8 j) (j) C X dX1_get_17 rfl (by omega) (rfl) ?_
    first | exact ret _ _ _ _ _ dX1_get_18 rfl ⟨rfl, rfl, .inr ⟨hb.2 c_5, rfl⟩⟩ | exact ret _ _ _ _ _ dX1_get_18 rfl ⟨rfl, rfl, .inl ⟨j, hj, rfl, rfl⟩⟩
  · skip
    refine j_iconst C (v := nI (0)) dX1_get_8 (by decide) ?_
    refine j_goto C 18 dX1_get_9 (by decide) ?_
    first | exact ret _ _ _ _ _ dX1_get_18 rfl ⟨rfl, rfl, .inr ⟨hb.2 c_5, rfl⟩⟩ | exact ret _ _ _ _ _ dX1_get_18 rfl ⟨rfl, rfl, .inl ⟨j, hj, rfl, rfl⟩⟩
set_option maxHeartbeats 4000000 in
set_option maxRecDepth 100000 in
theorem m_visits (F : jF) (A : jA) (v : Int32) : mMi yX1_visits cX1_visits 2 .int 1 [.int (v)] F A (fun r F1 A1 => F1 = F ∧ A1 = A ∧ ((∃ j, j < 10 ∧ v = nI j ∧ r = A 11 j) ∨ (inb v 10 = false ∧ r = -1))) := by
  refine mMi.intro (fun h => [some (.ref (h)), some (.int (v))]) (by decide) rfl (fun _ => rfl) (fun _ => rfl) (fun _ => Nat.le_of_ble_eq_true rfl) ?_
  intro g w C X ret
  show J g (mP w F A) 0 [some (.ref (xh w)), some (.int (v))] []
  refine j_aload_n C dX1_visits_0 rfl ?_
  refine j_iload_n C dX1_visits_1 rfl ?_
  refine m_callip C X (m_bad F A (v)) (lw_V q267 q269 qs12 q19 q270) (n := 1) (by decide +kernel) rfl (by decide) (by decide) dX1_visits_2 rfl (Nat.le_of_ble_eq_true rfl) rfl (fun r_1 hb => ?_)
  refine j_if_eq C 12 dX1_visits_5 (by decide) (fun c_5 => ?_) (fun c_5 => ?_)
  · skip
    obtain ⟨j, hj, rfl⟩ := inb_in (n := 10) (by decide) (hb.1 c_5)
    refine j_aload_n C dX1_visits_12 rfl ?_
    refine m_get_visits C X dX1_visits_13 ?_
    refine j_iload_n C dX1_visits_16 rfl ?_
    refine m_ald_visits (v := A 11 j) (j) C X dX1_visits_17 rfl (by omega) (rfl) ?_
    first | exact ret _ _ _ _ _ dX1_visits_18 rfl ⟨rfl, rfl, .inr ⟨hb.2 c_5, rfl⟩⟩ | exact ret _ _ _ _ _ dX1_visits_18 rfl ⟨rfl, rfl, .inl ⟨j, hj, rfl, rfl⟩⟩
  · skip
    refine j_iconst C (v := -1) dX1_visits_8 (by decide) ?_
    refine j_goto C 18 dX1_visits_9 (by decide) ?_
    first | exact ret _ _ _ _ _ dX1_visits_18 rfl ⟨rfl, rfl, .inr ⟨hb.2 c_5, rfl⟩⟩ | exact ret _ _ _ _ _ dX1_visits_18 rfl ⟨rfl, rfl, .inl ⟨j, hj, rfl, rfl⟩⟩
set_option maxHeartbeats 4000000 in
set_option maxRecDepth 100000 in
theorem m_outputs (F : jF) (A : jA)  : mMi yX1_outputs cX1_outputs 1 .int 0 [] F A (fun r F1 A1 => F1 = F ∧ A1 = A ∧ r = F 9) := by
  refine mMi.intro (fun h => [some (.ref (h))]) (by decide) rfl (fun _ => rfl) (fun _ => rfl) (fun _ => Nat.le_of_ble_eq_true rfl) ?_
  intro g w C X ret
  show J g (mP w F A) 0 [some (.ref (xh w))] []
  refine j_aload_n C dX1_outputs_0 rfl ?_
  refine m_get_outputs C X dX1_outputs_1 ?_
  exact ret _ _ _ _ _ dX1_outputs_4 rfl ⟨rfl, rfl, rfl⟩
set_option maxHeartbeats 4000000 in
set_option maxRecDepth 100000 in
theorem m_last (F : jF) (A : jA)  : mMi yX1_last cX1_last 1 .int 0 [] F A (fun r F1 A1 => F1 = F ∧ A1 = A ∧ r = F 12) := by
  refine mMi.intro (fun h => [some (.ref (h))]) (by decide) rfl (fun _ => rfl) (fun _ => rfl) (fun _ => Nat.le_of_ble_eq_true rfl) ?_
  intro g w C X ret
  show J g (mP w F A) 0 [some (.ref (xh w))] []
  refine j_aload_n C dX1_last_0 rfl ?_
  refine m_get_last C X dX1_last_1 ?_
  exact ret _ _ _ _ _ dX1_last_4 rfl ⟨rfl, rfl, rfl⟩
set_option maxHeartbeats 4000000 in
set_option maxRecDepth 100000 in
theorem m_output (F : jF) (A : jA) (back : Int32) (n : Nat) (hn : F 9 = nI n) (hnb : n < 2 ^ 20) : mMi yX1_output cX1_output 2 .int 0 [.int (back)] F A (fun r F1 A1 => F1 = F ∧ A1 = A ∧ ((∃ k, k < 16 ∧ k < n ∧ back = nI k ∧ r = A 10 k) ∨ ((inb back 16 = false ∨ F 9 ≤ back) ∧ r = nI 0))) := by
  refine mMi.intro (fun h => [some (.ref (h)), some (.int (back))]) (by decide) rfl (fun _ => rfl) (fun _ => rfl) (fun _ => Nat.le_of_ble_eq_true rfl) ?_
  intro g w C X ret
  show J g (mP w F A) 0 [some (.ref (xh w)), some (.int (back))] []
  refine j_iload_n C dX1_output_0 rfl ?_
  refine j_if_lt C 18 dX1_output_1 (by decide) (fun c_1 => ?_) (fun c_1 => ?_)
  · skip
    have hbad : inb back 16 = false ∨ F 9 ≤ back := by first | exact .inl (inb_f1 c_1) | exact .inl (inb_f2 (fun hh => i32_nlt.mpr ((le_lt_succ (by decide)).mpr hh) c_7)) | exact .inr (i32_nlt.mp c_15)
    refine j_iconst C (v := nI (0)) dX1_output_18 (by decide) ?_
    refine j_goto C 28 dX1_output_19 (by decide) ?_
    first | exact ret _ _ _ _ _ dX1_output_28 rfl ⟨rfl, rfl, .inl ⟨k, hk, hkn, rfl, rfl⟩⟩ | exact ret _ _ _ _ _ dX1_output_28 rfl ⟨rfl, rfl, .inr ⟨hbad, rfl⟩⟩
  · skip
    refine j_iload_n C dX1_output_4 rfl ?_
    refine j_bipush C (v := nI (15)) dX1_output_5 (by decide) ?_
    refine j_icmp_gt C 18 dX1_output_7 (by decide) (fun c_7 => ?_) (fun c_7 => ?_)
    · skip
      have hbad : inb back 16 = false ∨ F 9 ≤ back := by first | exact .inl (inb_f1 c_1) | exact .inl (inb_f2 (fun hh => i32_nlt.mpr ((le_lt_succ (by decide)).mpr hh) c_7)) | exact .inr (i32_nlt.mp c_15)
      refine j_iconst C (v := nI (0)) dX1_output_18 (by decide) ?_
      refine j_goto C 28 dX1_output_19 (by decide) ?_
      first | exact ret _ _ _ _ _ dX1_output_28 rfl ⟨rfl, rfl, .inl ⟨k, hk, hkn, rfl, rfl⟩⟩ | exact ret _ _ _ _ _ dX1_output_28 rfl ⟨rfl, rfl, .inr ⟨hbad, rfl⟩⟩
    · skip
      refine j_iload_n C dX1_output_10 rfl ?_
      refine j_aload_n C dX1_output_11 rfl ?_
      refine m_get_outputs C X dX1_output_12 ?_
      refine j_icmp_lt C 22 dX1_output_15 (by decide) (fun c_15 => ?_) (fun c_15 => ?_)
      · skip
        obtain ⟨k, hk, rfl⟩ := inb_in (n := 16) (by decide) (inb_t c_1 ((le_lt_succ (by decide)).mp (i32_nlt.mp c_7)))
        have hkn : k < n := (nI_ltI (by omega) (by omega)).mp (by rw [← hn]; exact c_15)
        refine j_aload_n C dX1_output_22 rfl ?_
        refine m_get_recent C X dX1_output_23 ?_
        refine j_iload_n C dX1_output_26 rfl ?_
        refine m_ald_recent (v := A 10 k) (k) C X dX1_output_27 rfl (by omega) (rfl) ?_
        first | exact ret _ _ _ _ _ dX1_output_28 rfl ⟨rfl, rfl, .inl ⟨k, hk, hkn, rfl, rfl⟩⟩ | exact ret _ _ _ _ _ dX1_output_28 rfl ⟨rfl, rfl, .inr ⟨hbad, rfl⟩⟩
      · skip
        have hbad : inb back 16 = false ∨ F 9 ≤ back := by first | exact .inl (inb_f1 c_1) | exact .inl (inb_f2 (fun hh => i32_nlt.mpr ((le_lt_succ (by decide)).mpr hh) c_7)) | exact .inr (i32_nlt.mp c_15)
        refine j_iconst C (v := nI (0)) dX1_output_18 (by decide) ?_
        refine j_goto C 28 dX1_output_19 (by decide) ?_
        first | exact ret _ _ _ _ _ dX1_output_28 rfl ⟨rfl, rfl, .inl ⟨k, hk, hkn, rfl, rfl⟩⟩ | exact ret _ _ _ _ _ dX1_output_28 rfl ⟨rfl, rfl, .inr ⟨hbad, rfl⟩⟩
set_option maxHeartbeats 4000000 in
set_option maxRecDepth 100000 in
theorem m_stop (F : jF) (A : jA) (b : Int32) : mMi yX1_stop cX1_stop 2 .int 1 [.int (b)] F A (fun r F1 A1 => F1 = F ∧ ((∃ j, j < 10 ∧ b = nI j ∧ r = nI 0 ∧ A1 = va_up A 4 (upd (A 4) j (nI 0))) ∨ (inb b 10 = false ∧ r = -1 ∧ A1 = A))) := by
  refine mMi.intro (fun h => [some (.ref (h)), some (.int (b))]) (by decide) rfl (fun _ => rfl) (fun _ => rfl) (fun _ => Nat.le_of_ble_eq_true rfl) ?_
  intro g w C X ret
  show J g (mP w F A) 0 [some (.ref (xh w)), some (.int (b))] []
  refine j_aload_n C dX1_stop_0 rfl ?_
  refine j_iload_n C dX1_stop_1 rfl ?_
  refine m_callip C X (m_bad F A (b)) (lw_V q267 q269 qs12 q19 q270) (n := 1) (by decide +kernel) rfl (by decide) (by decide) dX1_stop_2 rfl (Nat.le_of_ble_eq_true rfl) rfl (fun r_1 hb => ?_)
  refine j_if_eq C 10 dX1_stop_5 (by decide) (fun c_5 => ?_) (fun c_5 => ?_)
  · skip
    obtain ⟨j, hj, rfl⟩ := inb_in (n := 10) (by decide) (hb.1 c_5)
    refine j_aload_n C dX1_stop_10 rfl ?_
    refine m_get_ends C X dX1_stop_11 ?_
    refine j_iload_n C dX1_stop_14 rfl ?_
    refine j_iconst C (v := nI (0)) dX1_stop_15 (by decide) ?_
    obtain ⟨A_2, eA_2⟩ : ∃ Z, va_up A 4 (upd (A 4) (j) (nI (0))) = Z := ⟨_, rfl⟩
    refine m_ast_ends (j) C X dX1_stop_16 rfl (by omega) eA_2 ?_
    refine j_iconst C (v := nI (0)) dX1_stop_17 (by decide) ?_
    exact ret _ _ _ _ _ dX1_stop_18 rfl ⟨rfl, .inl ⟨j, hj, rfl, rfl, by subst eA_2; rfl⟩⟩
  · skip
    refine j_iconst C (v := -1) dX1_stop_8 (by decide) ?_
    exact ret _ _ _ _ _ dX1_stop_9 rfl ⟨rfl, .inr ⟨hb.2 c_5, rfl, rfl⟩⟩
set_option maxHeartbeats 4000000 in
set_option maxRecDepth 100000 in
theorem m_go (F : jF) (A : jA) (b t : Int32) : mMi yX1_go cX1_go 3 .int 1 [.int (b), .int (t)] F A (fun r F1 A1 => F1 = F ∧ ((∃ j k, j < 10 ∧ k < 10 ∧ b = nI j ∧ t = nI k ∧ r = nI 0 ∧ A1 = va_up (va_up A 4 (upd (A 4) j (nI 1))) 6 (upd (A 6) j (nI k))) ∨ ((inb b 10 = false ∨ inb t 10 = false) ∧ r = -1 ∧ A1 = A))) := by
  refine mMi.intro (fun h => [some (.ref (h)), some (.int (b)), some (.int (t))]) (by decide) rfl (fun _ => rfl) (fun _ => rfl) (fun _ => Nat.le_of_ble_eq_true rfl) ?_
  intro g w C X ret
  show J g (mP w F A) 0 [some (.ref (xh w)), some (.int (b)), some (.int (t))] []
  refine j_aload_n C dX1_go_0 rfl ?_
  refine j_iload_n C dX1_go_1 rfl ?_
  refine m_callip C X (m_bad F A (b)) (lw_V q267 q269 qs12 q19 q270) (n := 1) (by decide +kernel) rfl (by decide) (by decide) dX1_go_2 rfl (Nat.le_of_ble_eq_true rfl) rfl (fun r_1 hb => ?_)
  refine j_if_ne C 16 dX1_go_5 (by decide) (fun c_5 => ?_) (fun c_5 => ?_)
  · skip
    refine j_iconst C (v := -1) dX1_go_16 (by decide) ?_
    first | exact ret _ _ _ _ _ dX1_go_17 rfl ⟨rfl, .inr ⟨.inl (hb.2 c_5), rfl, rfl⟩⟩ | exact ret _ _ _ _ _ dX1_go_17 rfl ⟨rfl, .inr ⟨.inr (ht.2 c_13), rfl, rfl⟩⟩
  · skip
    obtain ⟨j, hj, rfl⟩ := inb_in (n := 10) (by decide) (hb.1 c_5)
    refine j_aload_n C dX1_go_8 rfl ?_
    refine j_iload_n C dX1_go_9 rfl ?_
    refine m_callip C X (m_bad F A (t)) (lw_V q267 q269 qs12 q19 q270) (n := 1) (by decide +kernel) rfl (by decide) (by decide) dX1_go_10 rfl (Nat.le_of_ble_eq_true rfl) rfl (fun r_2 ht => ?_)
    refine j_if_eq C 18 dX1_go_13 (by decide) (fun c_13 => ?_) (fun c_13 => ?_)
    · skip
      obtain ⟨k, hk, rfl⟩ := inb_in (n := 10) (by decide) (ht.1 c_13)
      refine j_aload_n C dX1_go_18 rfl ?_
      refine m_get_ends C X dX1_go_19 ?_
      refine j_iload_n C dX1_go_22 rfl ?_
      refine j_iconst C (v := nI (1)) dX1_go_23 (by decide) ?_
      obtain ⟨A_3, eA_3⟩ : ∃ Z, va_up A 4 (upd (A 4) (j) (nI (1))) = Z := ⟨_, rfl⟩
      refine m_ast_ends (j) C X dX1_go_24 rfl (by omega) eA_3 ?_
      refine j_aload_n C dX1_go_25 rfl ?_
      refine m_get_thens C X dX1_go_26 ?_
      refine j_iload_n C dX1_go_29 rfl ?_
      refine j_iload_n C dX1_go_30 rfl ?_
      obtain ⟨A_4, eA_4⟩ : ∃ Z, va_up A_3 6 (upd (A_3 6) (j) (nI (k))) = Z := ⟨_, rfl⟩
      refine m_ast_thens (j) C X dX1_go_31 rfl (by omega) eA_4 ?_
      refine j_iconst C (v := nI (0)) dX1_go_32 (by decide) ?_
      exact ret _ _ _ _ _ dX1_go_33 rfl ⟨rfl, .inl ⟨j, k, hj, hk, rfl, rfl, rfl, by subst eA_4; subst eA_3; rfl⟩⟩
    · skip
      refine j_iconst C (v := -1) dX1_go_16 (by decide) ?_
      first | exact ret _ _ _ _ _ dX1_go_17 rfl ⟨rfl, .inr ⟨.inl (hb.2 c_5), rfl, rfl⟩⟩ | exact ret _ _ _ _ _ dX1_go_17 rfl ⟨rfl, .inr ⟨.inr (ht.2 c_13), rfl, rfl⟩⟩
set_option maxHeartbeats 4000000 in
set_option maxRecDepth 100000 in
theorem m_branch (F : jF) (A : jA) (b v t u : Int32) : mMi yX1_branch cX1_branch 5 .int 1 [.int (b), .int (v), .int (t), .int (u)] F A (fun r F1 A1 => F1 = F ∧ ((∃ j a k e, j < 10 ∧ a < 4 ∧ k < 10 ∧ e < 10 ∧ b = nI j ∧ v = nI a ∧ t = nI k ∧ u = nI e ∧ r = nI 0 ∧ A1 = va_up (va_up (va_up (va_up A 4 (upd (A 4) j (nI 2))) 5 (upd (A 5) j (nI a))) 6 (upd (A 6) j (nI k))) 7 (upd (A 7) j (nI e))) ∨ ((inb b 10 = false ∨ inb t 10 = false ∨ inb u 10 = false) ∧ r = -1 ∧ A1 = A) ∨ (inb b 10 = true ∧ inb t 10 = true ∧ inb u 10 = true ∧ inb v 4 = false ∧ r = -2 ∧ A1 = A))) := by
  refine mMi.intro (fun h => [some (.ref (h)), some (.int (b)), some (.int (v)), some (.int (t)), some (.int (u))]) (by decide) rfl (fun _ => rfl) (fun _ => rfl) (fun _ => Nat.le_of_ble_eq_true rfl) ?_
  intro g w C X ret
  show J g (mP w F A) 0 [some (.ref (xh w)), some (.int (b)), some (.int (v)), some (.int (t)), some (.int (u))] []
  refine j_aload_n C dX1_branch_0 rfl ?_
  refine j_iload_n C dX1_branch_1 rfl ?_
  refine m_callip C X (m_bad F A (b)) (lw_V q267 q269 qs12 q19 q270) (n := 1) (by decide +kernel) rfl (by decide) (by decide) dX1_branch_2 rfl (Nat.le_of_ble_eq_true rfl) rfl (fun r_1 hb => ?_)
  refine j_if_ne C 25 dX1_branch_5 (by decide) (fun c_5 => ?_) (fun c_5 => ?_)
  · skip
    refine j_iconst C (v := -1) dX1_branch_25 (by decide) ?_
    first | exact ret _ _ _ _ _ dX1_branch_26 rfl ⟨rfl, .inr (.inl ⟨.inl (hb.2 c_5), rfl, rfl⟩)⟩ | exact ret _ _ _ _ _ dX1_branch_26 rfl ⟨rfl, .inr (.inl ⟨.inr (.inl (ht.2 c_13)), rfl, rfl⟩)⟩ | exact ret _ _ _ _ _ dX1_branch_26 rfl ⟨rfl, .inr (.inl ⟨.inr (.inr (hu.2 c_22)), rfl, rfl⟩)⟩
  · skip
    obtain ⟨j, hj, rfl⟩ := inb_in (n := 10) (by decide) (hb.1 c_5)
    refine j_aload_n C dX1_branch_8 rfl ?_
    refine j_iload_n C dX1_branch_9 rfl ?_
    refine m_callip C X (m_bad F A (t)) (lw_V q267 q269 qs12 q19 q270) (n := 1) (by decide +kernel) rfl (by decide) (by decide) dX1_branch_10 rfl (Nat.le_of_ble_eq_true rfl) rfl (fun r_2 ht => ?_)
    refine j_if_ne C 25 dX1_branch_13 (by decide) (fun c_13 => ?_) (fun c_13 => ?_)
    · skip
      refine j_iconst C (v := -1) dX1_branch_25 (by decide) ?_
      first | exact ret _ _ _ _ _ dX1_branch_26 rfl ⟨rfl, .inr (.inl ⟨.inl (hb.2 c_5), rfl, rfl⟩)⟩ | exact ret _ _ _ _ _ dX1_branch_26 rfl ⟨rfl, .inr (.inl ⟨.inr (.inl (ht.2 c_13)), rfl, rfl⟩)⟩ | exact ret _ _ _ _ _ dX1_branch_26 rfl ⟨rfl, .inr (.inl ⟨.inr (.inr (hu.2 c_22)), rfl, rfl⟩)⟩
    · skip
      obtain ⟨k, hk, rfl⟩ := inb_in (n := 10) (by decide) (ht.1 c_13)
      refine j_aload_n C dX1_branch_16 rfl ?_
      refine j_iload C dX1_branch_17 rfl ?_
      refine m_callip C X (m_bad F A (u)) (lw_V q267 q269 qs12 q19 q270) (n := 1) (by decide +kernel) rfl (by decide) (by decide) dX1_branch_19 rfl (Nat.le_of_ble_eq_true rfl) rfl (fun r_3 hu => ?_)
      refine j_if_eq C 27 dX1_branch_22 (by decide) (fun c_22 => ?_) (fun c_22 => ?_)
      · skip
        obtain ⟨e, he, rfl⟩ := inb_in (n := 10) (by decide) (hu.1 c_22)
        refine j_aload_n C dX1_branch_27 rfl ?_
        refine j_iload_n C dX1_branch_28 rfl ?_
        refine m_callip C X (m_badVariable F A (v)) (lw_V q271 q273 qs13 q19 q274) (n := 1) (by decide +kernel) rfl (by decide) (by decide) dX1_branch_29 rfl (Nat.le_of_ble_eq_true rfl) rfl (fun r_4 hv => ?_)
        refine j_if_eq C 38 dX1_branch_32 (by decide) (fun c_32 => ?_) (fun c_32 => ?_)
        · skip
          obtain ⟨a, ha, rfl⟩ := inb_in (n := 4) (by decide) (hv.1 c_32)
          refine j_aload_n C dX1_branch_38 rfl ?_
          refine m_get_ends C X dX1_branch_39 ?_
          refine j_iload_n C dX1_branch_42 rfl ?_
          refine j_iconst C (v := nI (2)) dX1_branch_43 (by decide) ?_
          obtain ⟨A_5, eA_5⟩ : ∃ Z, va_up A 4 (upd (A 4) (j) (nI (2))) = Z := ⟨_, rfl⟩
          refine m_ast_ends (j) C X dX1_branch_44 rfl (by omega) eA_5 ?_
          refine j_aload_n C dX1_branch_45 rfl ?_
          refine m_get_tests C X dX1_branch_46 ?_
          refine j_iload_n C dX1_branch_49 rfl ?_
          refine j_iload_n C dX1_branch_50 rfl ?_
          obtain ⟨A_6, eA_6⟩ : ∃ Z, va_up A_5 5 (upd (A_5 5) (j) (nI (a))) = Z := ⟨_, rfl⟩
          refine m_ast_tests (j) C X dX1_branch_51 rfl (by omega) eA_6 ?_
          refine j_aload_n C dX1_branch_52 rfl ?_
          refine m_get_thens C X dX1_branch_53 ?_
          refine j_iload_n C dX1_branch_56 rfl ?_
          refine j_iload_n C dX1_branch_57 rfl ?_
          obtain ⟨A_7, eA_7⟩ : ∃ Z, va_up A_6 6 (upd (A_6 6) (j) (nI (k))) = Z := ⟨_, rfl⟩
          refine m_ast_thens (j) C X dX1_branch_58 rfl (by omega) eA_7 ?_
          refine j_aload_n C dX1_branch_59 rfl ?_
          refine m_get_elses C X dX1_branch_60 ?_
          refine j_iload_n C dX1_branch_63 rfl ?_
          refine j_iload C dX1_branch_64 rfl ?_
          obtain ⟨A_8, eA_8⟩ : ∃ Z, va_up A_7 7 (upd (A_7 7) (j) (nI (e))) = Z := ⟨_, rfl⟩
          refine m_ast_elses (j) C X dX1_branch_66 rfl (by omega) eA_8 ?_
          refine j_iconst C (v := nI (0)) dX1_branch_67 (by decide) ?_
          exact ret _ _ _ _ _ dX1_branch_68 rfl ⟨rfl, .inl ⟨j, a, k, e, hj, ha, hk, he, rfl, rfl, rfl, rfl, rfl, by subst eA_8; subst eA_7; subst eA_6; subst eA_5; rfl⟩⟩
        · skip
          refine j_bipush C (v := -2) dX1_branch_35 (by decide) ?_
          exact ret _ _ _ _ _ dX1_branch_37 rfl ⟨rfl, .inr (.inr ⟨inb_nI hj (by decide), inb_nI hk (by decide), inb_nI he (by decide), hv.2 c_32, rfl, rfl⟩)⟩
      · skip
        refine j_iconst C (v := -1) dX1_branch_25 (by decide) ?_
        first | exact ret _ _ _ _ _ dX1_branch_26 rfl ⟨rfl, .inr (.inl ⟨.inl (hb.2 c_5), rfl, rfl⟩)⟩ | exact ret _ _ _ _ _ dX1_branch_26 rfl ⟨rfl, .inr (.inl ⟨.inr (.inl (ht.2 c_13)), rfl, rfl⟩)⟩ | exact ret _ _ _ _ _ dX1_branch_26 rfl ⟨rfl, .inr (.inl ⟨.inr (.inr (hu.2 c_22)), rfl, rfl⟩)⟩
end
section
/-! what a run does, as plain functions: V = (variables, how many outputs, the outputs, visits, last block) -/
abbrev aV : Type := (Nat → Int32) × Nat × (Nat → Int32) × (Nat → Int32) × Int32
def vco (op v w : Int32) (V : aV) : aV :=
  if op = nI 0 then (upd V.1 v.toNatClampNeg w, V.2)
  else if op = nI 1 then (upd V.1 v.toNatClampNeg (V.1 v.toNatClampNeg + V.1 w.toNatClampNeg), V.2)
  else if op = nI 2 then (upd V.1 v.toNatClampNeg (V.1 v.toNatClampNeg - V.1 w.toNatClampNeg), V.2)
  else if op = nI 3 then (upd V.1 v.toNatClampNeg (V.1 v.toNatClampNeg * V.1 w.toNatClampNeg), V.2)
  else if op = nI 4 then (upd V.1 v.toNatClampNeg (V.1 v.toNatClampNeg + w), V.2)
  else (V.1, V.2.1 + 1, upd V.2.2.1 V.2.1 (V.1 v.toNatClampNeg), V.2.2.2)
theorem vco_0 {v : Nat} (hv : v < 4) {w : Int32} {V : aV} : vco (nI 0) (nI v) w V = (upd V.1 v w, V.2) := by
  unfold vco
  rw [if_pos rfl, nI_clamp (n := v) (by omega)]
theorem vco_1 {v u : Nat} (hv : v < 4) (hu : u < 4) {V : aV} : vco (nI 1) (nI v) (nI u) V = (upd V.1 v (V.1 v + V.1 u), V.2) := by
  unfold vco
  rw [if_neg (by decide), if_pos rfl, nI_clamp (n := v) (by omega), nI_clamp (n := u) (by omega)]
theorem vco_2 {v u : Nat} (hv : v < 4) (hu : u < 4) {V : aV} : vco (nI 2) (nI v) (nI u) V = (upd V.1 v (V.1 v - V.1 u), V.2) := by
  unfold vco
  rw [if_neg (by decide), if_neg (by decide), if_pos rfl, nI_clamp (n := v) (by omega), nI_clamp (n := u) (by omega)]
theorem vco_3 {v u : Nat} (hv : v < 4) (hu : u < 4) {V : aV} : vco (nI 3) (nI v) (nI u) V = (upd V.1 v (V.1 v * V.1 u), V.2) := by
  unfold vco
  rw [if_neg (by decide), if_neg (by decide), if_neg (by decide), if_pos rfl, nI_clamp (n := v) (by omega), nI_clamp (n := u) (by omega)]
theorem vco_4 {v : Nat} (hv : v < 4) {w : Int32} {V : aV} : vco (nI 4) (nI v) w V = (upd V.1 v (V.1 v + w), V.2) := by
  unfold vco
  rw [if_neg (by decide), if_neg (by decide), if_neg (by decide), if_neg (by decide), if_pos rfl, nI_clamp (n := v) (by omega)]
theorem vco_5 {v : Nat} (hv : v < 4) {w : Int32} {V : aV} : vco (nI 5) (nI v) w V = (V.1, V.2.1 + 1, upd V.2.2.1 V.2.1 (V.1 v), V.2.2.2) := by
  unfold vco
  rw [if_neg (by decide), if_neg (by decide), if_neg (by decide), if_neg (by decide), if_neg (by decide), nI_clamp (n := v) (by omega)]
/-- n assignments from the i-th on -/
def vops (A : jA) : Nat → Nat → aV → aV
  | _, 0, V => V
  | i, n + 1, V => vops A (i + 1) n (vco (A 1 i) (A 2 i) (A 3 i) V)
def vent (A : jA) (b : Nat) (V : aV) : aV := vops A (b * 3) (A 0 b).toNatClampNeg (V.1, V.2.1, V.2.2.1, upd V.2.2.2.1 b (V.2.2.2.1 b + 1), nI b)
def vnext (A : jA) (b : Nat) (var : Nat → Int32) : Int32 := if ¬ A 4 b < 0 ∧ ¬ 0 < var (A 4 b).toNatClampNeg then A 6 b else A 5 b
def vrun (A : jA) : Nat → Nat → aV → Int32 × aV
  | 0, _, V => (nI 2, V)
  | n + 1, b, V => if vnext A b (vent A b V).1 < 0 then (nI 1, vent A b V) else vrun A n (vnext A b (vent A b V).1).toNatClampNeg (vent A b V)
theorem vent_eq {A : jA} {b s : Nat} {V : aV} (hs : s ≤ 3) (h : A 0 b = nI s) : vent A b V = vops A (b * 3) s (V.1, V.2.1, V.2.2.1, upd V.2.2.2.1 b (V.2.2.2.1 b + 1), nI b) := by
  rw [vent, h, nI_clamp (by omega)]
theorem vops_seen (A : jA) : ∀ (n i : Nat) (V : aV), (vops A i n V).2.2.2 = V.2.2.2 ∧ (vops A i n V).2.1 ≤ V.2.1 + n
  | 0, i, V => ⟨rfl, Nat.le_refl _⟩
  | n + 1, i, V => by
    have h := vops_seen A n (i + 1) (vco (A 1 i) (A 2 i) (A 3 i) V)
    have h1 : (vco (A 1 i) (A 2 i) (A 3 i) V).2.2.2 = V.2.2.2 ∧ (vco (A 1 i) (A 2 i) (A 3 i) V).2.1 ≤ V.2.1 + 1 := by
      unfold vco
      repeat' split
      all_goals exact ⟨rfl, by simp⟩
    exact ⟨h.1.trans h1.1, by have := h.2; have := h1.2; show (vops A (i + 1) n _).2.1 ≤ _; omega⟩
/-- the assignments hold what they may -/
def opOK (A : jA) : Prop := ∀ i, i < 30 → (∃ o, o < 6 ∧ A 1 i = nI o) ∧ (∃ v, v < 4 ∧ A 2 i = nI v) ∧ ((A 1 i < nI 1 ∨ nI 3 < A 1 i) ∨ ∃ u, u < 4 ∧ A 3 i = nI u)
def szOK (A : jA) : Prop := ∀ j, j < 10 → ∃ s, s ≤ 3 ∧ A 0 j = nI s
def tgt (x : Int32) : Prop := x = -1 ∨ ∃ t, t < 10 ∧ x = nI t
def endOK (A : jA) : Prop := ∀ b, b < 10 → (A 4 b = -1 ∨ ∃ v, v < 4 ∧ A 4 b = nI v) ∧ tgt (A 5 b) ∧ tgt (A 6 b)
theorem vent_n {A : jA} {b : Nat} {V : aV} (hs : szOK A) (hb : b < 10) : (vent A b V).2.1 ≤ V.2.1 + 3 := by
  obtain ⟨s, h1, h2⟩ := hs b hb
  rw [vent_eq h1 h2]
  have := (vops_seen A s (b * 3) (V.1, V.2.1, V.2.2.1, upd V.2.2.2.1 b (V.2.2.2.1 b + 1), nI b)).2
  simp only at this
  omega
theorem vnext_tgt {A : jA} {b : Nat} {var : Nat → Int32} (he : endOK A) (hb : b < 10) : tgt (vnext A b var) := by
  unfold vnext
  split
  · exact (he b hb).2.2
  · exact (he b hb).2.1
theorem vrun_n {A : jA} (hs : szOK A) (he : endOK A) : ∀ (n b : Nat) (V : aV), b < 10 → (vrun A n b V).2.2.1 ≤ V.2.1 + 3 * n
  | 0, b, V, hb => by simp [vrun]
  | n + 1, b, V, hb => by
    have h1 := vent_n (V := V) hs hb
    unfold vrun
    split
    next => simp only; omega
    next h =>
      rcases vnext_tgt (var := (vent A b V).1) he hb with h2 | ⟨t, ht, h2⟩
      · rw [h2] at h
        exact absurd neg1_lt h
      · rw [h2, nI_clamp (by omega)]
        have := vrun_n hs he n t (vent A b V) ht
        omega
/-- RelooperRunModel's cells hold V -/
def mAbs (F : jF) (A : jA) (V : aV) : Prop := A 8 = V.1 ∧ F 9 = nI V.2.1 ∧ (∀ j, j < 16 → j < V.2.1 → A 10 j = V.2.2.1 (V.2.1 - 1 - j)) ∧ (∀ j, j < 10 → A 11 j = V.2.2.2.1 j) ∧ F 12 = V.2.2.2.2
/-- RelooperRun's cells hold V -/
def xAbs (F : jF) (A : jA) (V : aV) : Prop := A 20 = V.1 ∧ F 25 = nI V.2.1 ∧ (∀ k, k < V.2.1 → V.2.1 ≤ k + 16 → A 26 (k % 16) = V.2.2.1 k) ∧ (∀ j, j < 10 → A 24 j = V.2.2.2.1 j) ∧ F 23 = V.2.2.2.2
theorem mAbs_var {F : jF} {A : jA} {V : aV} {v : Nat} {x : Int32} (h : mAbs F A V) : mAbs F (va_up A 8 (upd (A 8) v x)) (upd V.1 v x, V.2) ∧ ∀ k, k < 8 → va_up A 8 (upd (A 8) v x) k = A k := by
  obtain ⟨h1, h2, h3, h4, h5⟩ := h
  refine ⟨⟨by rw [up_s, h1], h2, fun j a b => ?_, fun j a => ?_, h5⟩, fun k hk => up_n (by omega)⟩
  · rw [up_n (by decide)]; exact h3 j a b
  · rw [up_n (by decide)]; exact h4 j a
theorem xAbs_var {F : jF} {A : jA} {V : aV} {v : Nat} {x : Int32} (h : xAbs F A V) : xAbs F (va_up A 20 (upd (A 20) v x)) (upd V.1 v x, V.2) ∧ ∀ k, k ≠ 20 → k ≠ 26 → va_up A 20 (upd (A 20) v x) k = A k := by
  obtain ⟨h1, h2, h3, h4, h5⟩ := h
  refine ⟨⟨by rw [up_s, h1], h2, fun j a b => ?_, fun j a => ?_, h5⟩, fun k hk _ => up_n hk⟩
  · rw [up_n (by decide)]; exact h3 j a b
  · rw [up_n (by decide)]; exact h4 j a
theorem mAbs_out {F F1 : jF} {A A1 : jA} {V : aV} {v : Nat} (h : mAbs F A V) (hF : F1 = upd F 9 (F 9 + nI 1)) (hA : ∀ k, k ≠ 10 → A1 k = A k) (h0 : A1 10 0 = A 8 v) (hs : ∀ j, 0 < j → j < 16 → A1 10 j = A 10 (j - 1)) :
    mAbs F1 A1 (V.1, V.2.1 + 1, upd V.2.2.1 V.2.1 (V.1 v), V.2.2.2) ∧ ∀ k, k < 8 → A1 k = A k := by
  obtain ⟨h1, h2, h3, h4, h5⟩ := h
  refine ⟨⟨by rw [hA 8 (by decide)]; exact h1, ?_, fun j a b => ?_, fun j a => ?_, ?_⟩, fun k hk => hA k (by omega)⟩
  · rw [hF, pk_us, h2]; exact nI_add _ _
  · show A1 10 j = upd V.2.2.1 V.2.1 (V.1 v) (V.2.1 + 1 - 1 - j)
    have b : j < V.2.1 + 1 := b
    by_cases hj : j = 0
    · subst hj
      rw [h0, h1, show V.2.1 + 1 - 1 - 0 = V.2.1 by omega, pk_us]
    · rw [hs j (by omega) a, pk_un (by omega), h3 (j - 1) (by omega) (by omega)]
      rw [show V.2.1 - 1 - (j - 1) = V.2.1 + 1 - 1 - j by omega]
  · rw [hA 11 (by decide)]; exact h4 j a
  · rw [hF, pk_un (by decide)]; exact h5
theorem xAbs_out {F : jF} {A : jA} {V : aV} {v : Nat} (h : xAbs F A V) :
    xAbs (upd F 25 (nI (V.2.1 + 1))) (va_up A 26 (upd (A 26) (V.2.1 % 16) (A 20 v))) (V.1, V.2.1 + 1, upd V.2.2.1 V.2.1 (V.1 v), V.2.2.2) ∧ ∀ k, k ≠ 20 → k ≠ 26 → va_up A 26 (upd (A 26) (V.2.1 % 16) (A 20 v)) k = A k := by
  obtain ⟨h1, h2, h3, h4, h5⟩ := h
  refine ⟨⟨by rw [up_n (by decide)]; exact h1, pk_us, fun k a b => ?_, fun j a => ?_, ?_⟩, fun k _ hk => up_n hk⟩
  · have a : k < V.2.1 + 1 := a
    have b : V.2.1 + 1 ≤ k + 16 := b
    show va_up A 26 (upd (A 26) (V.2.1 % 16) (A 20 v)) 26 (k % 16) = upd V.2.2.1 V.2.1 (V.1 v) k
    rw [up_s]
    by_cases hk : k = V.2.1
    · subst hk
      rw [pk_us, pk_us, h1]
    · rw [pk_un (by omega), pk_un hk]
      exact h3 k (by omega) (by omega)
  · rw [up_n (by decide)]; exact h4 j a
  · rw [pk_un (by decide)]; exact h5
/-- RelooperRunModel's graph is that of RelooperRun -/
def gRel (A B : jA) : Prop := (∀ k, k < 4 → B k = A k) ∧ ∀ b, b < 10 →
  (B 4 b = nI 0 ∧ A 4 b = -1 ∧ A 5 b = -1 ∧ A 6 b = -1) ∨ (∃ t, t < 10 ∧ B 4 b = nI 1 ∧ A 4 b = -1 ∧ A 5 b = nI t ∧ A 6 b = -1 ∧ B 6 b = nI t) ∨
  (∃ v t u, v < 4 ∧ t < 10 ∧ u < 10 ∧ B 4 b = nI 2 ∧ A 4 b = nI v ∧ B 5 b = nI v ∧ A 5 b = nI t ∧ B 6 b = nI t ∧ A 6 b = nI u ∧ B 7 b = nI u)
theorem vops_congr {A B : jA} (h : ∀ k, k < 4 → B k = A k) : ∀ (n i : Nat) (V : aV), vops B i n V = vops A i n V
  | 0, i, V => rfl
  | n + 1, i, V => by
    unfold vops
    rw [h 1 (by decide), h 2 (by decide), h 3 (by decide)]
    exact vops_congr h n (i + 1) _
theorem vent_congr {A B : jA} (h : ∀ k, k < 4 → B k = A k) (b : Nat) (V : aV) : vent B b V = vent A b V := by
  unfold vent
  rw [h 0 (by decide)]
  exact vops_congr h _ _ _
end
section
theorem opOK_congr {A B : jA} (h : ∀ k, k < 4 → B k = A k) (ho : opOK A) : opOK B := by
  intro i hi
  rw [h 1 (by decide), h 2 (by decide), h 3 (by decide)]
  exact ho i hi
theorem co_dead {x y : Int32} {o : Nat} (hu : (x < nI 1 ∨ nI 3 < x) ∨ ∃ u, u < 4 ∧ y = nI u) (eo : x = nI o) (h1 : 1 ≤ o) (h3 : o ≤ 3) (hb : inb y 4 = false) : False := by
  rcases hu with (h | h) | ⟨u, hu, rfl⟩
  · rw [eo] at h
    exact nI_nlt h1 (by omega) h
  · rw [eo] at h
    exact nI_nlt h3 (by omega) h
  · rw [inb_nI hu (by decide)] at hb
    exact absurd hb (by decide)
theorem vnext_no {A : jA} {b : Nat} {var : Nat → Int32} (h : A 4 b = -1) : vnext A b var = A 5 b := by
  unfold vnext
  rw [if_neg (fun hh => hh.1 (by rw [h]; decide))]
theorem vnext_lo {A : jA} {b v : Nat} {var : Nat → Int32} (hv : v < 4) (h : A 4 b = nI v) (h2 : ¬ 0 < var v) : vnext A b var = A 6 b := by
  unfold vnext
  rw [h, nI_clamp (by omega), if_pos ⟨nI_pos (by omega), h2⟩]
theorem vnext_hi {A : jA} {b v : Nat} {var : Nat → Int32} (hv : v < 4) (h : A 4 b = nI v) (h2 : 0 < var v) : vnext A b var = A 5 b := by
  unfold vnext
  rw [h, nI_clamp (by omega), if_neg (fun hh => hh.2 h2)]
theorem vrun_stop {A : jA} {n b : Nat} {V : aV} (h : vnext A b (vent A b V).1 = -1) : vrun A (n + 1) b V = (nI 1, vent A b V) := by
  unfold vrun
  rw [if_pos (by rw [h]; decide)]
theorem vrun_go {A : jA} {n b t : Nat} {V : aV} (ht : t < 10) (h : vnext A b (vent A b V).1 = nI t) : vrun A (n + 1) b V = vrun A n t (vent A b V) := by
  conv => lhs; unfold vrun
  rw [if_neg (by rw [h]; exact nI_pos (by omega)), h, nI_clamp (by omega)]
/-- what a run starts with -/
def vz (V : aV) : aV := (V.1, 0, V.2.2.1, fun _ => nI 0, V.2.2.2.2)
set_option maxHeartbeats 4000000 in
set_option maxRecDepth 100000 in
theorem m_out_loop {g : jG} {w : xT} {F : jF} {v : Int32} (C : jC g cX1_out 3) (X : mX g w 0) (A0 : jA) (hend : ∀ A1 : jA, (∀ k, k ≠ 10 → A1 k = A0 k) → (∀ j, 0 < j → j < 16 → A1 10 j = A0 10 (j - 1)) → J g (mP w F A1) 27 [some (.ref (xh w)), some (.int v), some (.int (nI 0))] []) :
    ∀ (i : Nat) (A : jA), i ≤ 15 → (∀ k, k ≠ 10 → A k = A0 k) → (∀ j, i < j → j < 16 → A 10 j = A0 10 (j - 1)) → (∀ j, j ≤ i → A 10 j = A0 10 j) → J g (mP w F A) 3 [some (.ref (xh w)), some (.int v), some (.int (nI i))] [] := by
  intro i
  induction i with
  | zero =>
    intro A hi h1 h2 h3
    refine j_iload_n C dX1_out_3 rfl ?_
    refine j_if_le C 27 dX1_out_4 (by decide) (fun c_4 => ?_) (fun c_4 => ?_)
    · skip
      have c_4 : 0 ≤ 0 := (nI_leI (a := 0) (b := 0) (by omega) (by omega)).mp c_4
      exact hend A h1 (fun j a b => h2 j a b)
    · skip
      have c_4 : ¬ 0 ≤ 0 := fun hh => c_4 ((nI_leI (a := 0) (b := 0) (by omega) (by omega)).mpr hh)
      exact absurd (Nat.le_refl 0) c_4
  | succ i ih =>
    intro A hi h1 h2 h3
    refine j_iload_n C dX1_out_3 rfl ?_
    refine j_if_le C 27 dX1_out_4 (by decide) (fun c_4 => ?_) (fun c_4 => ?_)
    · skip
      have c_4 : i + 1 ≤ 0 := (nI_leI (a := i + 1) (b := 0) (by omega) (by omega)).mp c_4
      omega
    · skip
      have c_4 : ¬ i + 1 ≤ 0 := fun hh => c_4 ((nI_leI (a := i + 1) (b := 0) (by omega) (by omega)).mpr hh)
      refine j_aload_n C dX1_out_7 rfl ?_
      refine m_get_recent C X dX1_out_8 ?_
      refine j_iload_n C dX1_out_11 rfl ?_
      refine j_aload_n C dX1_out_12 rfl ?_
      refine m_get_recent C X dX1_out_13 ?_
      refine j_iload_n C dX1_out_16 rfl ?_
      refine j_iconst C (v := nI (1)) dX1_out_17 (by decide) ?_
      refine j_isub C (v := nI ((i + 1) - 1)) dX1_out_18 (pk_sub (by omega)) ?_
      refine m_ald_recent (v := A 10 i) ((i + 1) - 1) C X dX1_out_19 rfl (by omega) (rfl) ?_
      obtain ⟨A_1, eA_1⟩ : ∃ Z, va_up A 10 (upd (A 10) (i + 1) (A 10 i)) = Z := ⟨_, rfl⟩
      refine m_ast_recent (i + 1) C X dX1_out_20 rfl (by omega) eA_1 ?_
      refine j_iinc C (v := nI (i)) (L' := [some (.ref (xh w)), some (.int (v)), some (.int (nI i))]) dX1_out_21 rfl (pk_m1 _) (Nat.le_of_ble_eq_true rfl) rfl rfl ?_
      refine j_goto C 3 dX1_out_24 (by decide) ?_
      refine ih A_1 (by omega) (fun k hk => ?_) (fun j a b => ?_) (fun j a => ?_)
      · rw [← eA_1, up_n hk]; exact h1 k hk
      · rw [← eA_1, up_s]
        by_cases hj : j = i + 1
        · subst hj
          rw [pk_us]
          exact h3 i (by omega)
        · rw [pk_un hj]
          exact h2 j (by omega) b
      · rw [← eA_1, up_s, pk_un (by omega)]
        exact h3 j (by omega)
set_option maxHeartbeats 4000000 in
set_option maxRecDepth 100000 in
theorem m_out (F : jF) (A : jA) (v : Int32) : mMv yX1_out cX1_out 3 0 [.int (v)] F A (fun F1 A1 => F1 = upd F 9 (F 9 + nI 1) ∧ (∀ k, k ≠ 10 → A1 k = A k) ∧ A1 10 0 = v ∧ ∀ j, 0 < j → j < 16 → A1 10 j = A 10 (j - 1)) := by
  refine mMv.intro (fun h => [some (.ref (h)), some (.int (v)), none]) (by decide) rfl (fun _ => rfl) (fun _ => rfl) (fun _ => Nat.le_of_ble_eq_true rfl) ?_
  intro g w C X ret
  show J g (mP w F A) 0 [some (.ref (xh w)), some (.int (v)), none] []
  refine j_bipush C (v := nI (15)) dX1_out_0 (by decide) ?_
  refine j_istore_n C (L' := [some (.ref (xh w)), some (.int (v)), some (.int (nI 15))]) dX1_out_2 (Nat.le_of_ble_eq_true rfl) rfl rfl ?_
  refine m_out_loop C X A (fun A1 k1 k2 => ?_) 15 A (by decide) (fun _ _ => rfl) (fun j a b => by omega) (fun _ _ => rfl)
  refine j_aload_n C dX1_out_27 rfl ?_
  refine m_get_recent C X dX1_out_28 ?_
  refine j_iconst C (v := nI (0)) dX1_out_31 (by decide) ?_
  refine j_iload_n C dX1_out_32 rfl ?_
  obtain ⟨A_1, eA_1⟩ : ∃ Z, va_up A1 10 (upd (A1 10) (0) (v)) = Z := ⟨_, rfl⟩
  refine m_ast_recent (0) C X dX1_out_33 rfl (by omega) eA_1 ?_
  refine j_aload_n C dX1_out_34 rfl ?_
  refine j_aload_n C dX1_out_35 rfl ?_
  refine m_get_outputs C X dX1_out_36 ?_
  refine j_iconst C (v := nI (1)) dX1_out_39 (by decide) ?_
  refine j_iadd C (v := (F 9) + (nI (1))) dX1_out_40 rfl ?_
  obtain ⟨F_2, eF_2⟩ : ∃ Z, upd F 9 ((F 9) + (nI (1))) = Z := ⟨_, rfl⟩
  refine m_put_outputs C X dX1_out_41 eF_2 ?_
  subst eF_2
  refine ret _ _ _ _ dX1_out_44 ⟨rfl, fun k hk => ?_, ?_, fun j a b => ?_⟩
  · rw [← eA_1, up_n hk]; exact k1 k hk
  · rw [← eA_1, up_s, pk_us]
  · rw [← eA_1, up_s, pk_un (by omega)]; exact k2 j a b
set_option maxHeartbeats 4000000 in
set_option maxRecDepth 100000 in
theorem m_carryOut (F : jF) (A : jA) (i : Nat) (hi : i < 30) (hop : opOK A) (V : aV) (hV : mAbs F A V) : mMv yX1_carryOut cX1_carryOut 5 1 [.int (nI i)] F A (fun F1 A1 => mAbs F1 A1 (vco (A 1 i) (A 2 i) (A 3 i) V) ∧ ∀ k, k < 8 → A1 k = A k) := by
  refine mMv.intro (fun h => [some (.ref (h)), some (.int (nI i)), none, none, none]) (by decide) rfl (fun _ => rfl) (fun _ => rfl) (fun _ => Nat.le_of_ble_eq_true rfl) ?_
  intro g w C X ret
  obtain ⟨⟨o, ho, eo⟩, ⟨v, hv, ev⟩, hu⟩ := hop i hi
  show J g (mP w F A) 0 [some (.ref (xh w)), some (.int (nI i)), none, none, none] []
  refine j_aload_n C dX1_carryOut_0 rfl ?_
  refine m_get_vs C X dX1_carryOut_1 ?_
  refine j_iload_n C dX1_carryOut_4 rfl ?_
  refine m_ald_vs (v := nI (v)) (i) C X dX1_carryOut_5 rfl (by omega) (ev) ?_
  refine j_istore_n C (L' := [some (.ref (xh w)), some (.int (nI i)), some (.int (nI v)), none, none]) dX1_carryOut_6 (Nat.le_of_ble_eq_true rfl) rfl rfl ?_
  refine j_aload_n C dX1_carryOut_7 rfl ?_
  refine m_get_ws C X dX1_carryOut_8 ?_
  refine j_iload_n C dX1_carryOut_11 rfl ?_
  refine m_ald_ws (v := A 3 i) (i) C X dX1_carryOut_12 rfl (by omega) (rfl) ?_
  refine j_istore_n C (L' := [some (.ref (xh w)), some (.int (nI i)), some (.int (nI v)), some (.int (A 3 i)), none]) dX1_carryOut_13 (Nat.le_of_ble_eq_true rfl) rfl rfl ?_
  refine j_aload_n C dX1_carryOut_14 rfl ?_
  refine j_iload_n C dX1_carryOut_15 rfl ?_
  refine m_callip C X (m_badVariable F A (A 3 i)) (lw_V q271 q273 qs13 q19 q274) (n := 1) (by decide +kernel) rfl (by decide) (by decide) dX1_carryOut_16 rfl (Nat.le_of_ble_eq_true rfl) rfl (fun r_1 hb => ?_)
  refine j_if_eq C 26 dX1_carryOut_19 (by decide) (fun c_19 => ?_) (fun c_19 => ?_)
  · skip
    obtain ⟨u, hu2, eu⟩ := inb_in (n := 4) (by decide) (hb.1 c_19)
    refine j_aload_n C dX1_carryOut_26 rfl ?_
    refine m_get_vars C X dX1_carryOut_27 ?_
    refine j_iload_n C dX1_carryOut_30 rfl ?_
    refine m_ald_vars (v := A 8 u) (u) C X dX1_carryOut_31 eu hu2 (rfl) ?_
    refine j_istore C (L' := [some (.ref (xh w)), some (.int (nI i)), some (.int (nI v)), some (.int (A 3 i)), some (.int (A 8 u))]) dX1_carryOut_32 (Nat.le_of_ble_eq_true rfl) rfl rfl ?_
    refine j_aload_n C dX1_carryOut_34 rfl ?_
    refine m_get_ops C X dX1_carryOut_35 ?_
    refine j_iload_n C dX1_carryOut_38 rfl ?_
    refine m_ald_ops (v := nI (o)) (i) C X dX1_carryOut_39 rfl (by omega) (eo) ?_
    refine j_if_ne C 53 dX1_carryOut_40 (by decide) (fun c_40 => ?_) (fun c_40 => ?_)
    · skip
      have c_40 : ¬ (o = 0) := fun hh => c_40 ((nI_eq (a := o) (b := 0) (by omega) (by omega)).mpr hh)
      refine j_aload_n C dX1_carryOut_53 rfl ?_
      refine m_get_ops C X dX1_carryOut_54 ?_
      refine j_iload_n C dX1_carryOut_57 rfl ?_
      refine m_ald_ops (v := nI (o)) (i) C X dX1_carryOut_58 rfl (by omega) (eo) ?_
      refine j_iconst C (v := nI (1)) dX1_carryOut_59 (by decide) ?_
      refine j_icmp_ne C 81 dX1_carryOut_60 (by decide) (fun c_60 => ?_) (fun c_60 => ?_)
      · skip
        have c_60 : ¬ (o = 1) := fun hh => c_60 ((nI_eq (a := o) (b := 1) (by omega) (by omega)).mpr hh)
        refine j_aload_n C dX1_carryOut_81 rfl ?_
        refine m_get_ops C X dX1_carryOut_82 ?_
        refine j_iload_n C dX1_carryOut_85 rfl ?_
        refine m_ald_ops (v := nI (o)) (i) C X dX1_carryOut_86 rfl (by omega) (eo) ?_
        refine j_iconst C (v := nI (2)) dX1_carryOut_87 (by decide) ?_
        refine j_icmp_ne C 109 dX1_carryOut_88 (by decide) (fun c_88 => ?_) (fun c_88 => ?_)
        · skip
          have c_88 : ¬ (o = 2) := fun hh => c_88 ((nI_eq (a := o) (b := 2) (by omega) (by omega)).mpr hh)
          refine j_aload_n C dX1_carryOut_109 rfl ?_
          refine m_get_ops C X dX1_carryOut_110 ?_
          refine j_iload_n C dX1_carryOut_113 rfl ?_
          refine m_ald_ops (v := nI (o)) (i) C X dX1_carryOut_114 rfl (by omega) (eo) ?_
          refine j_iconst C (v := nI (3)) dX1_carryOut_115 (by decide) ?_
          refine j_icmp_ne C 137 dX1_carryOut_116 (by decide) (fun c_116 => ?_) (fun c_116 => ?_)
          · skip
            have c_116 : ¬ (o = 3) := fun hh => c_116 ((nI_eq (a := o) (b := 3) (by omega) (by omega)).mpr hh)
            refine j_aload_n C dX1_carryOut_137 rfl ?_
            refine m_get_ops C X dX1_carryOut_138 ?_
            refine j_iload_n C dX1_carryOut_141 rfl ?_
            refine m_ald_ops (v := nI (o)) (i) C X dX1_carryOut_142 rfl (by omega) (eo) ?_
            refine j_iconst C (v := nI (4)) dX1_carryOut_143 (by decide) ?_
            refine j_icmp_ne C 164 dX1_carryOut_144 (by decide) (fun c_144 => ?_) (fun c_144 => ?_)
            · skip
              have c_144 : ¬ (o = 4) := fun hh => c_144 ((nI_eq (a := o) (b := 4) (by omega) (by omega)).mpr hh)
              refine j_aload_n C dX1_carryOut_164 rfl ?_
              refine j_aload_n C dX1_carryOut_165 rfl ?_
              refine m_get_vars C X dX1_carryOut_166 ?_
              refine j_iload_n C dX1_carryOut_169 rfl ?_
              refine m_ald_vars (v := A 8 v) (v) C X dX1_carryOut_170 rfl (by omega) (rfl) ?_
              refine m_callv C X (m_out F A (A 8 v)) (lw_V q307 q309 qs16 q19 q310) (n := 1) (by decide +kernel) rfl (by decide) (by decide) dX1_carryOut_171 rfl (Nat.le_of_ble_eq_true rfl) rfl (fun F_3 A_4 hO => ?_)
              exact ret _ _ _ _ dX1_carryOut_174 (by rw [eo, ev, show o = 5 by omega, vco_5 hv]; exact mAbs_out hV hO.1 hO.2.1 hO.2.2.1 hO.2.2.2)
            · skip
              have c_144 : o = 4 := (nI_eq (a := o) (b := 4) (by omega) (by omega)).mp c_144
              refine j_aload_n C dX1_carryOut_147 rfl ?_
              refine m_get_vars C X dX1_carryOut_148 ?_
              refine j_iload_n C dX1_carryOut_151 rfl ?_
              refine j_aload_n C dX1_carryOut_152 rfl ?_
              refine m_get_vars C X dX1_carryOut_153 ?_
              refine j_iload_n C dX1_carryOut_156 rfl ?_
              refine m_ald_vars (v := A 8 v) (v) C X dX1_carryOut_157 rfl (by omega) (rfl) ?_
              refine j_iload_n C dX1_carryOut_158 rfl ?_
              refine j_iadd C (v := (A 8 v) + (A 3 i)) dX1_carryOut_159 rfl ?_
              obtain ⟨A_5, eA_5⟩ : ∃ Z, va_up A 8 (upd (A 8) (v) ((A 8 v) + (A 3 i))) = Z := ⟨_, rfl⟩
              refine m_ast_vars (v) C X dX1_carryOut_160 rfl (by omega) eA_5 ?_
              refine j_goto C 174 dX1_carryOut_161 (by decide) ?_
              refine ret _ _ _ _ dX1_carryOut_174 ?_
              subst eA_5
              rw [eo, ev, c_144, vco_4 hv]
              have h9 := mAbs_var (v := v) (x := (A 8 v) + (A 3 i)) hV
              rw [hV.1] at h9 ⊢
              exact h9
          · skip
            have c_116 : o = 3 := (nI_eq (a := o) (b := 3) (by omega) (by omega)).mp c_116
            refine j_aload_n C dX1_carryOut_119 rfl ?_
            refine m_get_vars C X dX1_carryOut_120 ?_
            refine j_iload_n C dX1_carryOut_123 rfl ?_
            refine j_aload_n C dX1_carryOut_124 rfl ?_
            refine m_get_vars C X dX1_carryOut_125 ?_
            refine j_iload_n C dX1_carryOut_128 rfl ?_
            refine m_ald_vars (v := A 8 v) (v) C X dX1_carryOut_129 rfl (by omega) (rfl) ?_
            refine j_iload C dX1_carryOut_130 rfl ?_
            refine j_imul C (v := (A 8 v) * (A 8 u)) dX1_carryOut_132 rfl ?_
            obtain ⟨A_6, eA_6⟩ : ∃ Z, va_up A 8 (upd (A 8) (v) ((A 8 v) * (A 8 u))) = Z := ⟨_, rfl⟩
            refine m_ast_vars (v) C X dX1_carryOut_133 rfl (by omega) eA_6 ?_
            refine j_goto C 174 dX1_carryOut_134 (by decide) ?_
            refine ret _ _ _ _ dX1_carryOut_174 ?_
            subst eA_6
            rw [eo, ev, c_116, eu, vco_3 hv hu2]
            have h9 := mAbs_var (v := v) (x := (A 8 v) * (A 8 u)) hV
            rw [hV.1] at h9 ⊢
            exact h9
        · skip
          have c_88 : o = 2 := (nI_eq (a := o) (b := 2) (by omega) (by omega)).mp c_88
          refine j_aload_n C dX1_carryOut_91 rfl ?_
          refine m_get_vars C X dX1_carryOut_92 ?_
          refine j_iload_n C dX1_carryOut_95 rfl ?_
          refine j_aload_n C dX1_carryOut_96 rfl ?_
          refine m_get_vars C X dX1_carryOut_97 ?_
          refine j_iload_n C dX1_carryOut_100 rfl ?_
          refine m_ald_vars (v := A 8 v) (v) C X dX1_carryOut_101 rfl (by omega) (rfl) ?_
          refine j_iload C dX1_carryOut_102 rfl ?_
          refine j_isub C (v := (A 8 v) - (A 8 u)) dX1_carryOut_104 rfl ?_
          obtain ⟨A_7, eA_7⟩ : ∃ Z, va_up A 8 (upd (A 8) (v) ((A 8 v) - (A 8 u))) = Z := ⟨_, rfl⟩
          refine m_ast_vars (v) C X dX1_carryOut_105 rfl (by omega) eA_7 ?_
          refine j_goto C 174 dX1_carryOut_106 (by decide) ?_
          refine ret _ _ _ _ dX1_carryOut_174 ?_
          subst eA_7
          rw [eo, ev, c_88, eu, vco_2 hv hu2]
          have h9 := mAbs_var (v := v) (x := (A 8 v) - (A 8 u)) hV
          rw [hV.1] at h9 ⊢
          exact h9
      · skip
        have c_60 : o = 1 := (nI_eq (a := o) (b := 1) (by omega) (by omega)).mp c_60
        refine j_aload_n C dX1_carryOut_63 rfl ?_
        refine m_get_vars C X dX1_carryOut_64 ?_
        refine j_iload_n C dX1_carryOut_67 rfl ?_
        refine j_aload_n C dX1_carryOut_68 rfl ?_
        refine m_get_vars C X dX1_carryOut_69 ?_
        refine j_iload_n C dX1_carryOut_72 rfl ?_
        refine m_ald_vars (v := A 8 v) (v) C X dX1_carryOut_73 rfl (by omega) (rfl) ?_
        refine j_iload C dX1_carryOut_74 rfl ?_
        refine j_iadd C (v := (A 8 v) + (A 8 u)) dX1_carryOut_76 rfl ?_
        obtain ⟨A_8, eA_8⟩ : ∃ Z, va_up A 8 (upd (A 8) (v) ((A 8 v) + (A 8 u))) = Z := ⟨_, rfl⟩
        refine m_ast_vars (v) C X dX1_carryOut_77 rfl (by omega) eA_8 ?_
        refine j_goto C 174 dX1_carryOut_78 (by decide) ?_
        refine ret _ _ _ _ dX1_carryOut_174 ?_
        subst eA_8
        rw [eo, ev, c_60, eu, vco_1 hv hu2]
        have h9 := mAbs_var (v := v) (x := (A 8 v) + (A 8 u)) hV
        rw [hV.1] at h9 ⊢
        exact h9
    · skip
      have c_40 : o = 0 := (nI_eq (a := o) (b := 0) (by omega) (by omega)).mp c_40
      refine j_aload_n C dX1_carryOut_43 rfl ?_
      refine m_get_vars C X dX1_carryOut_44 ?_
      refine j_iload_n C dX1_carryOut_47 rfl ?_
      refine j_iload_n C dX1_carryOut_48 rfl ?_
      obtain ⟨A_9, eA_9⟩ : ∃ Z, va_up A 8 (upd (A 8) (v) (A 3 i)) = Z := ⟨_, rfl⟩
      refine m_ast_vars (v) C X dX1_carryOut_49 rfl (by omega) eA_9 ?_
      refine j_goto C 174 dX1_carryOut_50 (by decide) ?_
      refine ret _ _ _ _ dX1_carryOut_174 ?_
      subst eA_9
      rw [eo, ev, c_40, vco_0 hv]
      have h9 := mAbs_var (v := v) (x := A 3 i) hV
      rw [hV.1] at h9 ⊢
      exact h9
  · skip
    refine j_iconst C (v := nI (0)) dX1_carryOut_22 (by decide) ?_
    refine j_goto C 32 dX1_carryOut_23 (by decide) ?_
    refine j_istore C (L' := [some (.ref (xh w)), some (.int (nI i)), some (.int (nI v)), some (.int (A 3 i)), some (.int (nI 0))]) dX1_carryOut_32 (Nat.le_of_ble_eq_true rfl) rfl rfl ?_
    refine j_aload_n C dX1_carryOut_34 rfl ?_
    refine m_get_ops C X dX1_carryOut_35 ?_
    refine j_iload_n C dX1_carryOut_38 rfl ?_
    refine m_ald_ops (v := nI (o)) (i) C X dX1_carryOut_39 rfl (by omega) (eo) ?_
    refine j_if_ne C 53 dX1_carryOut_40 (by decide) (fun c_40 => ?_) (fun c_40 => ?_)
    · skip
      have c_40 : ¬ (o = 0) := fun hh => c_40 ((nI_eq (a := o) (b := 0) (by omega) (by omega)).mpr hh)
      refine j_aload_n C dX1_carryOut_53 rfl ?_
      refine m_get_ops C X dX1_carryOut_54 ?_
      refine j_iload_n C dX1_carryOut_57 rfl ?_
      refine m_ald_ops (v := nI (o)) (i) C X dX1_carryOut_58 rfl (by omega) (eo) ?_
      refine j_iconst C (v := nI (1)) dX1_carryOut_59 (by decide) ?_
      refine j_icmp_ne C 81 dX1_carryOut_60 (by decide) (fun c_60 => ?_) (fun c_60 => ?_)
      · skip
        have c_60 : ¬ (o = 1) := fun hh => c_60 ((nI_eq (a := o) (b := 1) (by omega) (by omega)).mpr hh)
        refine j_aload_n C dX1_carryOut_81 rfl ?_
        refine m_get_ops C X dX1_carryOut_82 ?_
        refine j_iload_n C dX1_carryOut_85 rfl ?_
        refine m_ald_ops (v := nI (o)) (i) C X dX1_carryOut_86 rfl (by omega) (eo) ?_
        refine j_iconst C (v := nI (2)) dX1_carryOut_87 (by decide) ?_
        refine j_icmp_ne C 109 dX1_carryOut_88 (by decide) (fun c_88 => ?_) (fun c_88 => ?_)
        · skip
          have c_88 : ¬ (o = 2) := fun hh => c_88 ((nI_eq (a := o) (b := 2) (by omega) (by omega)).mpr hh)
          refine j_aload_n C dX1_carryOut_109 rfl ?_
          refine m_get_ops C X dX1_carryOut_110 ?_
          refine j_iload_n C dX1_carryOut_113 rfl ?_
          refine m_ald_ops (v := nI (o)) (i) C X dX1_carryOut_114 rfl (by omega) (eo) ?_
          refine j_iconst C (v := nI (3)) dX1_carryOut_115 (by decide) ?_
          refine j_icmp_ne C 137 dX1_carryOut_116 (by decide) (fun c_116 => ?_) (fun c_116 => ?_)
          · skip
            have c_116 : ¬ (o = 3) := fun hh => c_116 ((nI_eq (a := o) (b := 3) (by omega) (by omega)).mpr hh)
            refine j_aload_n C dX1_carryOut_137 rfl ?_
            refine m_get_ops C X dX1_carryOut_138 ?_
            refine j_iload_n C dX1_carryOut_141 rfl ?_
            refine m_ald_ops (v := nI (o)) (i) C X dX1_carryOut_142 rfl (by omega) (eo) ?_
            refine j_iconst C (v := nI (4)) dX1_carryOut_143 (by decide) ?_
            refine j_icmp_ne C 164 dX1_carryOut_144 (by decide) (fun c_144 => ?_) (fun c_144 => ?_)
            · skip
              have c_144 : ¬ (o = 4) := fun hh => c_144 ((nI_eq (a := o) (b := 4) (by omega) (by omega)).mpr hh)
              refine j_aload_n C dX1_carryOut_164 rfl ?_
              refine j_aload_n C dX1_carryOut_165 rfl ?_
              refine m_get_vars C X dX1_carryOut_166 ?_
              refine j_iload_n C dX1_carryOut_169 rfl ?_
              refine m_ald_vars (v := A 8 v) (v) C X dX1_carryOut_170 rfl (by omega) (rfl) ?_
              refine m_callv C X (m_out F A (A 8 v)) (lw_V q307 q309 qs16 q19 q310) (n := 1) (by decide +kernel) rfl (by decide) (by decide) dX1_carryOut_171 rfl (Nat.le_of_ble_eq_true rfl) rfl (fun F_11 A_12 hO => ?_)
              exact ret _ _ _ _ dX1_carryOut_174 (by rw [eo, ev, show o = 5 by omega, vco_5 hv]; exact mAbs_out hV hO.1 hO.2.1 hO.2.2.1 hO.2.2.2)
            · skip
              have c_144 : o = 4 := (nI_eq (a := o) (b := 4) (by omega) (by omega)).mp c_144
              refine j_aload_n C dX1_carryOut_147 rfl ?_
              refine m_get_vars C X dX1_carryOut_148 ?_
              refine j_iload_n C dX1_carryOut_151 rfl ?_
              refine j_aload_n C dX1_carryOut_152 rfl ?_
              refine m_get_vars C X dX1_carryOut_153 ?_
              refine j_iload_n C dX1_carryOut_156 rfl ?_
              refine m_ald_vars (v := A 8 v) (v) C X dX1_carryOut_157 rfl (by omega) (rfl) ?_
              refine j_iload_n C dX1_carryOut_158 rfl ?_
              refine j_iadd C (v := (A 8 v) + (A 3 i)) dX1_carryOut_159 rfl ?_
              obtain ⟨A_13, eA_13⟩ : ∃ Z, va_up A 8 (upd (A 8) (v) ((A 8 v) + (A 3 i))) = Z := ⟨_, rfl⟩
              refine m_ast_vars (v) C X dX1_carryOut_160 rfl (by omega) eA_13 ?_
              refine j_goto C 174 dX1_carryOut_161 (by decide) ?_
              refine ret _ _ _ _ dX1_carryOut_174 ?_
              subst eA_13
              rw [eo, ev, c_144, vco_4 hv]
              have h9 := mAbs_var (v := v) (x := (A 8 v) + (A 3 i)) hV
              rw [hV.1] at h9 ⊢
              exact h9
          · skip
            have c_116 : o = 3 := (nI_eq (a := o) (b := 3) (by omega) (by omega)).mp c_116
            exact (co_dead hu eo (by omega) (by omega) (hb.2 c_19)).elim
        · skip
          have c_88 : o = 2 := (nI_eq (a := o) (b := 2) (by omega) (by omega)).mp c_88
          exact (co_dead hu eo (by omega) (by omega) (hb.2 c_19)).elim
      · skip
        have c_60 : o = 1 := (nI_eq (a := o) (b := 1) (by omega) (by omega)).mp c_60
        exact (co_dead hu eo (by omega) (by omega) (hb.2 c_19)).elim
    · skip
      have c_40 : o = 0 := (nI_eq (a := o) (b := 0) (by omega) (by omega)).mp c_40
      refine j_aload_n C dX1_carryOut_43 rfl ?_
      refine m_get_vars C X dX1_carryOut_44 ?_
      refine j_iload_n C dX1_carryOut_47 rfl ?_
      refine j_iload_n C dX1_carryOut_48 rfl ?_
      obtain ⟨A_14, eA_14⟩ : ∃ Z, va_up A 8 (upd (A 8) (v) (A 3 i)) = Z := ⟨_, rfl⟩
      refine m_ast_vars (v) C X dX1_carryOut_49 rfl (by omega) eA_14 ?_
      refine j_goto C 174 dX1_carryOut_50 (by decide) ?_
      refine ret _ _ _ _ dX1_carryOut_174 ?_
      subst eA_14
      rw [eo, ev, c_40, vco_0 hv]
      have h9 := mAbs_var (v := v) (x := A 3 i) hV
      rw [hV.1] at h9 ⊢
      exact h9
set_option maxHeartbeats 4000000 in
set_option maxRecDepth 100000 in
theorem m_enter_loop {g : jG} {w : xT} (C : jC g cX1_enter 3) (X : mX g w 2) {b s : Nat} (hb : b < 10) (hs : s ≤ 3) (A0 : jA) (es : A0 0 b = nI s) (hop : opOK A0) (Ve : aV) (hend : ∀ (F1 : jF) (A1 : jA), mAbs F1 A1 Ve → (∀ k, k < 8 → A1 k = A0 k) → J g (mP w F1 A1) 46 [some (.ref (xh w)), some (.int (nI b)), some (.int (nI s))] []) :
    ∀ (n i : Nat) (F : jF) (A : jA) (V : aV), i + n = s → (∀ k, k < 8 → A k = A0 k) → mAbs F A V → vops A0 (b * 3 + i) n V = Ve → J g (mP w F A) 21 [some (.ref (xh w)), some (.int (nI b)), some (.int (nI i))] [] := by
  intro n
  induction n with
  | zero =>
    intro i F A V hi hA hV hv
    have e0 : A 0 b = nI s := by rw [hA 0 (by decide)]; exact es
    refine j_iload_n C dX1_enter_21 rfl ?_
    refine j_aload_n C dX1_enter_22 rfl ?_
    refine m_get_counts C X dX1_enter_23 ?_
    refine j_iload_n C dX1_enter_26 rfl ?_
    refine m_ald_counts (v := nI (s)) (b) C X dX1_enter_27 rfl (by omega) (e0) ?_
    refine j_icmp_ge C 46 dX1_enter_28 (by decide) (fun c_28 => ?_) (fun c_28 => ?_)
    · skip
      have c_28 : s ≤ i := (nI_leI (a := s) (b := i) (by omega) (by omega)).mp c_28
      obtain rfl : i = s := by omega
      exact hend F A (by rw [← hv]; exact hV) hA
    · skip
      have c_28 : ¬ s ≤ i := fun hh => c_28 ((nI_leI (a := s) (b := i) (by omega) (by omega)).mpr hh)
      omega
  | succ n ih =>
    intro i F A V hi hA hV hv
    have e0 : A 0 b = nI s := by rw [hA 0 (by decide)]; exact es
    refine j_iload_n C dX1_enter_21 rfl ?_
    refine j_aload_n C dX1_enter_22 rfl ?_
    refine m_get_counts C X dX1_enter_23 ?_
    refine j_iload_n C dX1_enter_26 rfl ?_
    refine m_ald_counts (v := nI (s)) (b) C X dX1_enter_27 rfl (by omega) (e0) ?_
    refine j_icmp_ge C 46 dX1_enter_28 (by decide) (fun c_28 => ?_) (fun c_28 => ?_)
    · skip
      have c_28 : s ≤ i := (nI_leI (a := s) (b := i) (by omega) (by omega)).mp c_28
      omega
    · skip
      have c_28 : ¬ s ≤ i := fun hh => c_28 ((nI_leI (a := s) (b := i) (by omega) (by omega)).mpr hh)
      refine j_aload_n C dX1_enter_31 rfl ?_
      refine j_iload_n C dX1_enter_32 rfl ?_
      refine j_iconst C (v := nI (3)) dX1_enter_33 (by decide) ?_
      refine j_imul C (v := nI (b * 3)) dX1_enter_34 (pk_mul _ _) ?_
      refine j_iload_n C dX1_enter_35 rfl ?_
      refine j_iadd C (v := nI ((b * 3) + i)) dX1_enter_36 (nI_add _ _) ?_
      refine m_callv C X (m_carryOut F A (b * 3 + i) (by omega) (opOK_congr (fun k hk => hA k (by omega)) hop) V hV) (lw_V q303 q305 qs15 q19 q306) (n := 1) (by decide +kernel) rfl (by decide) (by decide) dX1_enter_37 rfl (Nat.le_of_ble_eq_true rfl) rfl (fun F_2 A_3 hC => ?_)
      refine j_iinc C (v := nI (i + 1)) (L' := [some (.ref (xh w)), some (.int (nI b)), some (.int (nI (i + 1)))]) dX1_enter_40 rfl (nI_1 _) (Nat.le_of_ble_eq_true rfl) rfl rfl ?_
      refine j_goto C 21 dX1_enter_43 (by decide) ?_
      refine ih (i + 1) F_2 A_3 _ (by omega) (fun k hk => (hC.2 k hk).trans (hA k hk)) hC.1 ?_
      rw [hA 1 (by decide), hA 2 (by decide), hA 3 (by decide)]
      exact hv
set_option maxHeartbeats 4000000 in
set_option maxRecDepth 100000 in
theorem m_enter (F : jF) (A : jA) (b : Nat) (hb : b < 10) (s : Nat) (hs : s ≤ 3) (es : A 0 b = nI s) (hop : opOK A) (V : aV) (hV : mAbs F A V) : mMv yX1_enter cX1_enter 3 2 [.int (nI b)] F A (fun F1 A1 => mAbs F1 A1 (vent A b V) ∧ ∀ k, k < 8 → A1 k = A k) := by
  refine mMv.intro (fun h => [some (.ref (h)), some (.int (nI b)), none]) (by decide) rfl (fun _ => rfl) (fun _ => rfl) (fun _ => Nat.le_of_ble_eq_true rfl) ?_
  intro g w C X ret
  show J g (mP w F A) 0 [some (.ref (xh w)), some (.int (nI b)), none] []
  refine j_aload_n C dX1_enter_0 rfl ?_
  refine j_iload_n C dX1_enter_1 rfl ?_
  obtain ⟨F_1, eF_1⟩ : ∃ Z, upd F 12 (nI (b)) = Z := ⟨_, rfl⟩
  refine m_put_last C X dX1_enter_2 eF_1 ?_
  refine j_aload_n C dX1_enter_5 rfl ?_
  refine m_get_visits C X dX1_enter_6 ?_
  refine j_iload_n C dX1_enter_9 rfl ?_
  refine j_aload_n C dX1_enter_10 rfl ?_
  refine m_get_visits C X dX1_enter_11 ?_
  refine j_iload_n C dX1_enter_14 rfl ?_
  refine m_ald_visits (v := A 11 b) (b) C X dX1_enter_15 rfl (by omega) (rfl) ?_
  refine j_iconst C (v := nI (1)) dX1_enter_16 (by decide) ?_
  refine j_iadd C (v := (A 11 b) + (nI (1))) dX1_enter_17 rfl ?_
  obtain ⟨A_2, eA_2⟩ : ∃ Z, va_up A 11 (upd (A 11) (b) ((A 11 b) + (nI (1)))) = Z := ⟨_, rfl⟩
  refine m_ast_visits (b) C X dX1_enter_18 rfl (by omega) eA_2 ?_
  refine j_iconst C (v := nI (0)) dX1_enter_19 (by decide) ?_
  refine j_istore_n C (L' := [some (.ref (xh w)), some (.int (nI b)), some (.int (nI 0))]) dX1_enter_20 (Nat.le_of_ble_eq_true rfl) rfl rfl ?_
  refine m_enter_loop C X hb hs A es hop (vent A b V) (fun F1 A1 q1 q2 => ?_) s 0 F_1 A_2 (V.1, V.2.1, V.2.2.1, upd V.2.2.2.1 b (V.2.2.2.1 b + 1), nI b) (by omega) (fun k hk => ?_) ?_ (vent_eq hs es).symm
  · exact ret _ _ _ _ dX1_enter_46 ⟨q1, q2⟩
  · rw [← eA_2, up_n (by omega)]
  · obtain ⟨v1, v2, v3, v4, v5⟩ := hV
    refine ⟨?_, ?_, fun j a b => ?_, fun j a => ?_, ?_⟩
    · rw [← eA_2, up_n (by decide)]; exact v1
    · rw [← eF_1, pk_un (by decide)]; exact v2
    · rw [← eA_2, up_n (by decide)]; exact v3 j a b
    · rw [← eA_2, up_s]
      show upd (A 11) b ((A 11 b) + (nI 1)) j = upd V.2.2.2.1 b (V.2.2.2.1 b + 1) j
      by_cases hj : j = b
      · subst hj
        rw [pk_us, pk_us, v4 j a]
        rfl
      · rw [pk_un hj, pk_un hj]; exact v4 j a
    · rw [← eF_1, pk_us]
set_option maxHeartbeats 4000000 in
set_option maxRecDepth 100000 in
theorem m_run_z {g : jG} {w : xT} {F : jF} (C : jC g cX1_run 3) (X : mX g w 3) (A0 : jA) (hend : ∀ A1 : jA, (∀ k, k ≠ 11 → A1 k = A0 k) → (∀ j, j < 10 → A1 11 j = nI 0) → J g (mP w F A1) 26 [some (.ref (xh w)), some (.int (nI 10)), none] []) :
    ∀ (n i : Nat) (A : jA), i + n = 10 → (∀ k, k ≠ 11 → A k = A0 k) → (∀ j, j < i → A 11 j = nI 0) → J g (mP w F A) 7 [some (.ref (xh w)), some (.int (nI i)), none] [] := by
  intro n
  induction n with
  | zero =>
    intro i A hi h1 h2
    obtain rfl : i = 10 := by omega
    refine j_iload_n C dX1_run_7 rfl ?_
    refine j_bipush C (v := nI (10)) dX1_run_8 (by decide) ?_
    refine j_icmp_ge C 26 dX1_run_10 (by decide) (fun c_10 => ?_) (fun c_10 => ?_)
    · skip
      have c_10 : 10 ≤ 10 := (nI_leI (a := 10) (b := 10) (by omega) (by omega)).mp c_10
      exact hend A h1 h2
    · skip
      have c_10 : ¬ 10 ≤ 10 := fun hh => c_10 ((nI_leI (a := 10) (b := 10) (by omega) (by omega)).mpr hh)
      omega
  | succ n ih =>
    intro i A hi h1 h2
    refine j_iload_n C dX1_run_7 rfl ?_
    refine j_bipush C (v := nI (10)) dX1_run_8 (by decide) ?_
    refine j_icmp_ge C 26 dX1_run_10 (by decide) (fun c_10 => ?_) (fun c_10 => ?_)
    · skip
      have c_10 : 10 ≤ i := (nI_leI (a := 10) (b := i) (by omega) (by omega)).mp c_10
      omega
    · skip
      have c_10 : ¬ 10 ≤ i := fun hh => c_10 ((nI_leI (a := 10) (b := i) (by omega) (by omega)).mpr hh)
      refine j_aload_n C dX1_run_13 rfl ?_
      refine m_get_visits C X dX1_run_14 ?_
      refine j_iload_n C dX1_run_17 rfl ?_
      refine j_iconst C (v := nI (0)) dX1_run_18 (by decide) ?_
      obtain ⟨A_1, eA_1⟩ : ∃ Z, va_up A 11 (upd (A 11) (i) (nI (0))) = Z := ⟨_, rfl⟩
      refine m_ast_visits (i) C X dX1_run_19 rfl (by omega) eA_1 ?_
      refine j_iinc C (v := nI (i + 1)) (L' := [some (.ref (xh w)), some (.int (nI (i + 1))), none]) dX1_run_20 rfl (nI_1 _) (Nat.le_of_ble_eq_true rfl) rfl rfl ?_
      refine j_goto C 7 dX1_run_23 (by decide) ?_
      refine ih (i + 1) A_1 (by omega) (fun k hk => ?_) (fun j a => ?_)
      · rw [← eA_1, up_n hk]; exact h1 k hk
      · rw [← eA_1, up_s]
        by_cases hj : j = i
        · subst hj
          rw [pk_us]
        · rw [pk_un hj]
          exact h2 j (by omega)
set_option maxHeartbeats 4000000 in
set_option maxRecDepth 100000 in
theorem m_run_loop {g : jG} {w : xT} (C : jC g cX1_run 3) (X : mX g w 3) (A0 B : jA) (hg : gRel A0 B) (hop : opOK A0) (hsz : szOK A0) (res : Int32 × aV) (ret : ∀ (pc : Nat) (L : List (Option Value)) (r : Int32) (F1 : jF) (A1 : jA), decode cX1_run pc = .ok (.ireturn, 1) → narrow .int (.int r) = .int r → (r = res.1 ∧ mAbs F1 A1 res.2 ∧ ∀ k, k < 8 → A1 k = B k) → J g (mP w F1 A1) pc L [.int r]) :
    ∀ (n k b : Nat) (F : jF) (A : jA) (V : aV), k + n = 300 → b < 10 → (∀ k, k < 8 → A k = B k) → mAbs F A V → vrun A0 n b V = res → J g (mP w F A) 30 [some (.ref (xh w)), some (.int (nI b)), some (.int (nI k))] [] := by
  intro n
  induction n with
  | zero =>
    intro k b F A V hk hb hA hV hv
    refine j_iload_n C dX1_run_30 rfl ?_
    refine j_sipush C (v := nI (300)) dX1_run_31 (by decide) ?_
    refine j_icmp_ge C 99 dX1_run_34 (by decide) (fun c_34 => ?_) (fun c_34 => ?_)
    · skip
      have c_34 : 300 ≤ k := (nI_leI (a := 300) (b := k) (by omega) (by omega)).mp c_34
      refine j_iconst C (v := nI (2)) dX1_run_99 (by decide) ?_
      exact ret _ _ _ _ _ dX1_run_100 rfl (by subst hv; exact ⟨rfl, hV, hA⟩)
    · skip
      have c_34 : ¬ 300 ≤ k := fun hh => c_34 ((nI_leI (a := 300) (b := k) (by omega) (by omega)).mpr hh)
      omega
  | succ n ih =>
    intro k b F A V hk hb hA hV hv
    obtain ⟨s, hs, es⟩ := hsz b hb
    have hA4 : ∀ k, k < 4 → A k = A0 k := fun k hk => (hA k (by omega)).trans (hg.1 k hk)
    refine j_iload_n C dX1_run_30 rfl ?_
    refine j_sipush C (v := nI (300)) dX1_run_31 (by decide) ?_
    refine j_icmp_ge C 99 dX1_run_34 (by decide) (fun c_34 => ?_) (fun c_34 => ?_)
    · skip
      have c_34 : 300 ≤ k := (nI_leI (a := 300) (b := k) (by omega) (by omega)).mp c_34
      omega
    · skip
      have c_34 : ¬ 300 ≤ k := fun hh => c_34 ((nI_leI (a := 300) (b := k) (by omega) (by omega)).mpr hh)
      refine j_aload_n C dX1_run_37 rfl ?_
      refine j_iload_n C dX1_run_38 rfl ?_
      refine m_callv C X (m_enter F A b hb s hs (by rw [hA4 0 (by decide)]; exact es) (opOK_congr hA4 hop) V hV) (lw_V q299 q301 qs14 q19 q302) (n := 1) (by decide +kernel) rfl (by decide) (by decide) dX1_run_39 rfl (Nat.le_of_ble_eq_true rfl) rfl (fun F1 A1 hE => ?_)
      have hE4 : A1 4 b = B 4 b := by rw [hE.2 4 (by decide), hA 4 (by decide)]
      have hE5 : A1 5 b = B 5 b := by rw [hE.2 5 (by decide), hA 5 (by decide)]
      have hE6 : A1 6 b = B 6 b := by rw [hE.2 6 (by decide), hA 6 (by decide)]
      have hE7 : A1 7 b = B 7 b := by rw [hE.2 7 (by decide), hA 7 (by decide)]
      rcases hg.2 b hb with ⟨e4, a4, a5, a6⟩ | ⟨t, ht, e4, a4, a5, a6, e6⟩ | ⟨v, t, u, hv4, ht, hu, e4, a4, e5, a5, e6, a6, e7⟩
      · skip
        refine j_aload_n C dX1_run_42 rfl ?_
        refine m_get_ends C X dX1_run_43 ?_
        refine j_iload_n C dX1_run_46 rfl ?_
        refine m_ald_ends (v := nI (0)) (b) C X dX1_run_47 rfl (by omega) (hE4.trans e4) ?_
        refine j_if_ne C 53 dX1_run_48 (by decide) (fun c_48 => ?_) (fun c_48 => ?_)
        · skip
          have c_48 : ¬ (0 = 0) := fun hh => c_48 ((nI_eq (a := 0) (b := 0) (by omega) (by omega)).mpr hh)
          exact absurd rfl c_48
        · skip
          have c_48 : 0 = 0 := (nI_eq (a := 0) (b := 0) (by omega) (by omega)).mp c_48
          refine j_iconst C (v := nI (1)) dX1_run_51 (by decide) ?_
          refine ret _ _ _ _ _ dX1_run_52 rfl ?_
          rw [vrun_stop (by rw [vnext_no a4]; exact a5)] at hv
          subst hv
          refine ⟨rfl, ?_, fun k hk => (hE.2 k hk).trans (hA k hk)⟩
          rw [← vent_congr hA4]
          exact hE.1
      · skip
        refine j_aload_n C dX1_run_42 rfl ?_
        refine m_get_ends C X dX1_run_43 ?_
        refine j_iload_n C dX1_run_46 rfl ?_
        refine m_ald_ends (v := nI (1)) (b) C X dX1_run_47 rfl (by omega) (hE4.trans e4) ?_
        refine j_if_ne C 53 dX1_run_48 (by decide) (fun c_48 => ?_) (fun c_48 => ?_)
        · skip
          have c_48 : ¬ (1 = 0) := fun hh => c_48 ((nI_eq (a := 1) (b := 0) (by omega) (by omega)).mpr hh)
          refine j_aload_n C dX1_run_53 rfl ?_
          refine m_get_ends C X dX1_run_54 ?_
          refine j_iload_n C dX1_run_57 rfl ?_
          refine m_ald_ends (v := nI (1)) (b) C X dX1_run_58 rfl (by omega) (hE4.trans e4) ?_
          refine j_iconst C (v := nI (1)) dX1_run_59 (by decide) ?_
          refine j_icmp_eq C 77 dX1_run_60 (by decide) (fun c_60 => ?_) (fun c_60 => ?_)
          · skip
            have c_60 : 1 = 1 := (nI_eq (a := 1) (b := 1) (by omega) (by omega)).mp c_60
            refine j_aload_n C dX1_run_77 rfl ?_
            refine m_get_thens C X dX1_run_78 ?_
            refine j_iload_n C dX1_run_81 rfl ?_
            refine m_ald_thens (v := nI (t)) (b) C X dX1_run_82 rfl (by omega) (hE6.trans e6) ?_
            refine j_goto C 92 dX1_run_83 (by decide) ?_
            refine j_istore_n C (L' := [some (.ref (xh w)), some (.int (nI t)), some (.int (nI k))]) dX1_run_92 (Nat.le_of_ble_eq_true rfl) rfl rfl ?_
            refine j_iinc C (v := nI (k + 1)) (L' := [some (.ref (xh w)), some (.int (nI t)), some (.int (nI (k + 1)))]) dX1_run_93 rfl (nI_1 _) (Nat.le_of_ble_eq_true rfl) rfl rfl ?_
            refine j_goto C 30 dX1_run_96 (by decide) ?_
            refine ih (k + 1) t F1 A1 _ (by omega) (by omega) (fun k hk => (hE.2 k hk).trans (hA k hk)) hE.1 ?_
            rw [vent_congr hA4, ← vrun_go (n := n) (by omega) (by rw [vnext_no a4]; exact a5)]
            exact hv
          · skip
            have c_60 : ¬ (1 = 1) := fun hh => c_60 ((nI_eq (a := 1) (b := 1) (by omega) (by omega)).mpr hh)
            exact absurd rfl c_60
        · skip
          have c_48 : 1 = 0 := (nI_eq (a := 1) (b := 0) (by omega) (by omega)).mp c_48
          omega
      · skip
        refine j_aload_n C dX1_run_42 rfl ?_
        refine m_get_ends C X dX1_run_43 ?_
        refine j_iload_n C dX1_run_46 rfl ?_
        refine m_ald_ends (v := nI (2)) (b) C X dX1_run_47 rfl (by omega) (hE4.trans e4) ?_
        refine j_if_ne C 53 dX1_run_48 (by decide) (fun c_48 => ?_) (fun c_48 => ?_)
        · skip
          have c_48 : ¬ (2 = 0) := fun hh => c_48 ((nI_eq (a := 2) (b := 0) (by omega) (by omega)).mpr hh)
          refine j_aload_n C dX1_run_53 rfl ?_
          refine m_get_ends C X dX1_run_54 ?_
          refine j_iload_n C dX1_run_57 rfl ?_
          refine m_ald_ends (v := nI (2)) (b) C X dX1_run_58 rfl (by omega) (hE4.trans e4) ?_
          refine j_iconst C (v := nI (1)) dX1_run_59 (by decide) ?_
          refine j_icmp_eq C 77 dX1_run_60 (by decide) (fun c_60 => ?_) (fun c_60 => ?_)
          · skip
            have c_60 : 2 = 1 := (nI_eq (a := 2) (b := 1) (by omega) (by omega)).mp c_60
            omega
          · skip
            have c_60 : ¬ (2 = 1) := fun hh => c_60 ((nI_eq (a := 2) (b := 1) (by omega) (by omega)).mpr hh)
            refine j_aload_n C dX1_run_63 rfl ?_
            refine m_get_vars C X dX1_run_64 ?_
            refine j_aload_n C dX1_run_67 rfl ?_
            refine m_get_tests C X dX1_run_68 ?_
            refine j_iload_n C dX1_run_71 rfl ?_
            refine m_ald_tests (v := nI (v)) (b) C X dX1_run_72 rfl (by omega) (hE5.trans e5) ?_
            refine m_ald_vars (v := A1 8 v) (v) C X dX1_run_73 rfl (by omega) (rfl) ?_
            refine j_if_le C 86 dX1_run_74 (by decide) (fun c_74 => ?_) (fun c_74 => ?_)
            · skip
              have hx : A1 8 v = (vent A0 b V).1 v := by rw [hE.1.1, vent_congr hA4]
              have c_74l : ¬ 0 < A1 8 v := fun hh => i32_nle.mpr hh c_74
              refine j_aload_n C dX1_run_86 rfl ?_
              refine m_get_elses C X dX1_run_87 ?_
              refine j_iload_n C dX1_run_90 rfl ?_
              refine m_ald_elses (v := nI (u)) (b) C X dX1_run_91 rfl (by omega) (hE7.trans e7) ?_
              refine j_istore_n C (L' := [some (.ref (xh w)), some (.int (nI u)), some (.int (nI k))]) dX1_run_92 (Nat.le_of_ble_eq_true rfl) rfl rfl ?_
              refine j_iinc C (v := nI (k + 1)) (L' := [some (.ref (xh w)), some (.int (nI u)), some (.int (nI (k + 1)))]) dX1_run_93 rfl (nI_1 _) (Nat.le_of_ble_eq_true rfl) rfl rfl ?_
              refine j_goto C 30 dX1_run_96 (by decide) ?_
              refine ih (k + 1) u F1 A1 _ (by omega) (by omega) (fun k hk => (hE.2 k hk).trans (hA k hk)) hE.1 ?_
              rw [vent_congr hA4, ← vrun_go (n := n) (by omega) (by rw [vnext_lo hv4 a4 (by rw [← hx]; exact fun hh => c_74l hh)]; exact a6)]
              exact hv
            · skip
              have hx : A1 8 v = (vent A0 b V).1 v := by rw [hE.1.1, vent_congr hA4]
              have c_74h : 0 < A1 8 v := i32_nle.mp c_74
              refine j_aload_n C dX1_run_77 rfl ?_
              refine m_get_thens C X dX1_run_78 ?_
              refine j_iload_n C dX1_run_81 rfl ?_
              refine m_ald_thens (v := nI (t)) (b) C X dX1_run_82 rfl (by omega) (hE6.trans e6) ?_
              refine j_goto C 92 dX1_run_83 (by decide) ?_
              refine j_istore_n C (L' := [some (.ref (xh w)), some (.int (nI t)), some (.int (nI k))]) dX1_run_92 (Nat.le_of_ble_eq_true rfl) rfl rfl ?_
              refine j_iinc C (v := nI (k + 1)) (L' := [some (.ref (xh w)), some (.int (nI t)), some (.int (nI (k + 1)))]) dX1_run_93 rfl (nI_1 _) (Nat.le_of_ble_eq_true rfl) rfl rfl ?_
              refine j_goto C 30 dX1_run_96 (by decide) ?_
              refine ih (k + 1) t F1 A1 _ (by omega) (by omega) (fun k hk => (hE.2 k hk).trans (hA k hk)) hE.1 ?_
              rw [vent_congr hA4, ← vrun_go (n := n) (by omega) (by rw [vnext_hi hv4 a4 (by rw [← hx]; exact c_74h)]; exact a5)]
              exact hv
        · skip
          have c_48 : 2 = 0 := (nI_eq (a := 2) (b := 0) (by omega) (by omega)).mp c_48
          omega
set_option maxHeartbeats 4000000 in
set_option maxRecDepth 100000 in
theorem m_run (F : jF) (A : jA) (A0 : jA) (hg : gRel A0 A) (hop : opOK A0) (hsz : szOK A0) (V : aV) (hV : mAbs F A V) : mMi yX1_run cX1_run 3 .int 3 [] F A (fun r F1 A1 => r = (vrun A0 300 0 (vz V)).1 ∧ mAbs F1 A1 (vrun A0 300 0 (vz V)).2 ∧ ∀ k, k < 8 → A1 k = A k) := by
  refine mMi.intro (fun h => [some (.ref (h)), none, none]) (by decide) rfl (fun _ => rfl) (fun _ => rfl) (fun _ => Nat.le_of_ble_eq_true rfl) ?_
  intro g w C X ret
  show J g (mP w F A) 0 [some (.ref (xh w)), none, none] []
  refine j_aload_n C dX1_run_0 rfl ?_
  refine j_iconst C (v := nI (0)) dX1_run_1 (by decide) ?_
  obtain ⟨F_1, eF_1⟩ : ∃ Z, upd F 9 (nI (0)) = Z := ⟨_, rfl⟩
  refine m_put_outputs C X dX1_run_2 eF_1 ?_
  refine j_iconst C (v := nI (0)) dX1_run_5 (by decide) ?_
  refine j_istore_n C (L' := [some (.ref (xh w)), some (.int (nI 0)), none]) dX1_run_6 (Nat.le_of_ble_eq_true rfl) rfl rfl ?_
  refine m_run_z C X A (fun A1 k1 k2 => ?_) 10 0 A (by omega) (fun _ _ => rfl) (fun j a => by omega)
  refine j_iconst C (v := nI (0)) dX1_run_26 (by decide) ?_
  refine j_istore_n C (L' := [some (.ref (xh w)), some (.int (nI 0)), none]) dX1_run_27 (Nat.le_of_ble_eq_true rfl) rfl rfl ?_
  refine j_iconst C (v := nI (0)) dX1_run_28 (by decide) ?_
  refine j_istore_n C (L' := [some (.ref (xh w)), some (.int (nI 0)), some (.int (nI 0))]) dX1_run_29 (Nat.le_of_ble_eq_true rfl) rfl rfl ?_
  refine m_run_loop C X A0 A hg hop hsz (vrun A0 300 0 (vz V)) ret 300 0 0 F_1 A1 (vz V) (by omega) (by omega) (fun k hk => k1 k (by omega)) ?_ rfl
  obtain ⟨v1, v2, v3, v4, v5⟩ := hV
  refine ⟨?_, ?_, fun j a b => ?_, fun j a => ?_, ?_⟩
  · rw [k1 8 (by decide)]; exact v1
  · rw [← eF_1, pk_us]; rfl
  · exact absurd b (Nat.not_lt_zero _)
  · exact k2 j a
  · rw [← eF_1, pk_un (by decide)]; exact v5
end
section
theorem co_live {x y : Int32} {o : Nat} (hu : (x < nI 1 ∨ nI 3 < x) ∨ ∃ u, u < 4 ∧ y = nI u) (eo : x = nI o) (h1 : 1 ≤ o) (h3 : o ≤ 3) : ∃ u, u < 4 ∧ y = nI u := by
  rcases hu with (h | h) | h
  · rw [eo] at h
    exact absurd h (nI_nlt h1 (by omega))
  · rw [eo] at h
    exact absurd h (nI_nlt h3 (by omega))
  · exact h
theorem vco_n {op v w : Int32} {V : aV} : (vco op v w V).2.1 ≤ V.2.1 + 1 := by
  unfold vco
  repeat' split
  all_goals simp
set_option maxHeartbeats 4000000 in
set_option maxRecDepth 100000 in
theorem x_carryOut (F : jF) (A : jA) (i : Nat) (hi : i < 30) (hop : opOK A) (V : aV) (hV : xAbs F A V) (hn : V.2.1 < 2 ^ 20) : xMv yX0_carryOut cX0_carryOut 4 0 [.int (nI i)] F A (fun F1 A1 => xAbs F1 A1 (vco (A 1 i) (A 2 i) (A 3 i) V) ∧ (∀ k, k ≠ 20 → k ≠ 26 → A1 k = A k) ∧ ∀ k, k ≠ 25 → F1 k = F k) := by
  refine xMv.intro (fun h => [some (.ref (h)), some (.int (nI i)), none, none]) (by decide) rfl (fun _ => rfl) (fun _ => rfl) (fun _ => Nat.le_of_ble_eq_true rfl) ?_
  intro g w C X ret
  obtain ⟨⟨o, ho, eo⟩, ⟨v, hv, ev⟩, hu⟩ := hop i hi
  show J g (xP w F A) 0 [some (.ref (xh w)), some (.int (nI i)), none, none] []
  refine j_aload_n C dX0_carryOut_0 rfl ?_
  refine x_get_target C X dX0_carryOut_1 ?_
  refine j_iload_n C dX0_carryOut_4 rfl ?_
  refine x_ald_target (v := nI (v)) (i) C X dX0_carryOut_5 rfl (by omega) (ev) ?_
  refine j_istore_n C (L' := [some (.ref (xh w)), some (.int (nI i)), some (.int (nI v)), none]) dX0_carryOut_6 (Nat.le_of_ble_eq_true rfl) rfl rfl ?_
  refine j_aload_n C dX0_carryOut_7 rfl ?_
  refine x_get_operand C X dX0_carryOut_8 ?_
  refine j_iload_n C dX0_carryOut_11 rfl ?_
  refine x_ald_operand (v := A 3 i) (i) C X dX0_carryOut_12 rfl (by omega) (rfl) ?_
  refine j_istore_n C (L' := [some (.ref (xh w)), some (.int (nI i)), some (.int (nI v)), some (.int (A 3 i))]) dX0_carryOut_13 (Nat.le_of_ble_eq_true rfl) rfl rfl ?_
  refine j_aload_n C dX0_carryOut_14 rfl ?_
  refine x_get_op C X dX0_carryOut_15 ?_
  refine j_iload_n C dX0_carryOut_18 rfl ?_
  refine x_ald_op (v := nI (o)) (i) C X dX0_carryOut_19 rfl (by omega) (eo) ?_
  obtain rfl | rfl | rfl | rfl | rfl | rfl : o = 0 ∨ o = 1 ∨ o = 2 ∨ o = 3 ∨ o = 4 ∨ o = 5 := by omega
  · skip
    refine j_tableIn C (off := 36) 56 dX0_carryOut_20 (by decide) (by decide) (by decide) (by decide) ?_
    refine j_aload_n C dX0_carryOut_56 rfl ?_
    refine x_get_var C X dX0_carryOut_57 ?_
    refine j_iload_n C dX0_carryOut_60 rfl ?_
    refine j_iload_n C dX0_carryOut_61 rfl ?_
    obtain ⟨A_1, eA_1⟩ : ∃ Z, va_up A 20 (upd (A 20) (v) (A 3 i)) = Z := ⟨_, rfl⟩
    refine x_ast_var (v) C X dX0_carryOut_62 rfl (by omega) eA_1 ?_
    refine j_goto C 177 dX0_carryOut_63 (by decide) ?_
    refine ret _ _ _ _ dX0_carryOut_177 ?_
    subst eA_1
    rw [eo, ev, vco_0 hv]
    have h9 := xAbs_var (v := v) (x := A 3 i) hV
    rw [hV.1] at h9 ⊢
    exact ⟨h9.1, h9.2, fun _ _ => rfl⟩
  · skip
    obtain ⟨u, hu2, eu⟩ := co_live hu eo (by decide) (by decide)
    refine j_tableIn C (off := 46) 66 dX0_carryOut_20 (by decide) (by decide) (by decide) (by decide) ?_
    refine j_aload_n C dX0_carryOut_66 rfl ?_
    refine x_get_var C X dX0_carryOut_67 ?_
    refine j_iload_n C dX0_carryOut_70 rfl ?_
    refine j_aload_n C dX0_carryOut_71 rfl ?_
    refine x_get_var C X dX0_carryOut_72 ?_
    refine j_iload_n C dX0_carryOut_75 rfl ?_
    refine x_ald_var (v := A 20 v) (v) C X dX0_carryOut_76 rfl (by omega) (rfl) ?_
    refine j_aload_n C dX0_carryOut_77 rfl ?_
    refine x_get_var C X dX0_carryOut_78 ?_
    refine j_iload_n C dX0_carryOut_81 rfl ?_
    refine x_ald_var (v := A 20 u) (u) C X dX0_carryOut_82 eu hu2 (rfl) ?_
    refine j_iadd C (v := (A 20 v) + (A 20 u)) dX0_carryOut_83 rfl ?_
    obtain ⟨A_2, eA_2⟩ : ∃ Z, va_up A 20 (upd (A 20) (v) ((A 20 v) + (A 20 u))) = Z := ⟨_, rfl⟩
    refine x_ast_var (v) C X dX0_carryOut_84 rfl (by omega) eA_2 ?_
    refine j_goto C 177 dX0_carryOut_85 (by decide) ?_
    refine ret _ _ _ _ dX0_carryOut_177 ?_
    subst eA_2
    rw [eo, ev, eu, vco_1 hv hu2]
    have h9 := xAbs_var (v := v) (x := (A 20 v) + (A 20 u)) hV
    rw [hV.1] at h9 ⊢
    exact ⟨h9.1, h9.2, fun _ _ => rfl⟩
  · skip
    obtain ⟨u, hu2, eu⟩ := co_live hu eo (by decide) (by decide)
    refine j_tableIn C (off := 68) 88 dX0_carryOut_20 (by decide) (by decide) (by decide) (by decide) ?_
    refine j_aload_n C dX0_carryOut_88 rfl ?_
    refine x_get_var C X dX0_carryOut_89 ?_
    refine j_iload_n C dX0_carryOut_92 rfl ?_
    refine j_aload_n C dX0_carryOut_93 rfl ?_
    refine x_get_var C X dX0_carryOut_94 ?_
    refine j_iload_n C dX0_carryOut_97 rfl ?_
    refine x_ald_var (v := A 20 v) (v) C X dX0_carryOut_98 rfl (by omega) (rfl) ?_
    refine j_aload_n C dX0_carryOut_99 rfl ?_
    refine x_get_var C X dX0_carryOut_100 ?_
    refine j_iload_n C dX0_carryOut_103 rfl ?_
    refine x_ald_var (v := A 20 u) (u) C X dX0_carryOut_104 eu hu2 (rfl) ?_
    refine j_isub C (v := (A 20 v) - (A 20 u)) dX0_carryOut_105 rfl ?_
    obtain ⟨A_3, eA_3⟩ : ∃ Z, va_up A 20 (upd (A 20) (v) ((A 20 v) - (A 20 u))) = Z := ⟨_, rfl⟩
    refine x_ast_var (v) C X dX0_carryOut_106 rfl (by omega) eA_3 ?_
    refine j_goto C 177 dX0_carryOut_107 (by decide) ?_
    refine ret _ _ _ _ dX0_carryOut_177 ?_
    subst eA_3
    rw [eo, ev, eu, vco_2 hv hu2]
    have h9 := xAbs_var (v := v) (x := (A 20 v) - (A 20 u)) hV
    rw [hV.1] at h9 ⊢
    exact ⟨h9.1, h9.2, fun _ _ => rfl⟩
  · skip
    obtain ⟨u, hu2, eu⟩ := co_live hu eo (by decide) (by decide)
    refine j_tableIn C (off := 90) 110 dX0_carryOut_20 (by decide) (by decide) (by decide) (by decide) ?_
    refine j_aload_n C dX0_carryOut_110 rfl ?_
    refine x_get_var C X dX0_carryOut_111 ?_
    refine j_iload_n C dX0_carryOut_114 rfl ?_
    refine j_aload_n C dX0_carryOut_115 rfl ?_
    refine x_get_var C X dX0_carryOut_116 ?_
    refine j_iload_n C dX0_carryOut_119 rfl ?_
    refine x_ald_var (v := A 20 v) (v) C X dX0_carryOut_120 rfl (by omega) (rfl) ?_
    refine j_aload_n C dX0_carryOut_121 rfl ?_
    refine x_get_var C X dX0_carryOut_122 ?_
    refine j_iload_n C dX0_carryOut_125 rfl ?_
    refine x_ald_var (v := A 20 u) (u) C X dX0_carryOut_126 eu hu2 (rfl) ?_
    refine j_imul C (v := (A 20 v) * (A 20 u)) dX0_carryOut_127 rfl ?_
    obtain ⟨A_4, eA_4⟩ : ∃ Z, va_up A 20 (upd (A 20) (v) ((A 20 v) * (A 20 u))) = Z := ⟨_, rfl⟩
    refine x_ast_var (v) C X dX0_carryOut_128 rfl (by omega) eA_4 ?_
    refine j_goto C 177 dX0_carryOut_129 (by decide) ?_
    refine ret _ _ _ _ dX0_carryOut_177 ?_
    subst eA_4
    rw [eo, ev, eu, vco_3 hv hu2]
    have h9 := xAbs_var (v := v) (x := (A 20 v) * (A 20 u)) hV
    rw [hV.1] at h9 ⊢
    exact ⟨h9.1, h9.2, fun _ _ => rfl⟩
  · skip
    refine j_tableIn C (off := 112) 132 dX0_carryOut_20 (by decide) (by decide) (by decide) (by decide) ?_
    refine j_aload_n C dX0_carryOut_132 rfl ?_
    refine x_get_var C X dX0_carryOut_133 ?_
    refine j_iload_n C dX0_carryOut_136 rfl ?_
    refine j_aload_n C dX0_carryOut_137 rfl ?_
    refine x_get_var C X dX0_carryOut_138 ?_
    refine j_iload_n C dX0_carryOut_141 rfl ?_
    refine x_ald_var (v := A 20 v) (v) C X dX0_carryOut_142 rfl (by omega) (rfl) ?_
    refine j_iload_n C dX0_carryOut_143 rfl ?_
    refine j_iadd C (v := (A 20 v) + (A 3 i)) dX0_carryOut_144 rfl ?_
    obtain ⟨A_5, eA_5⟩ : ∃ Z, va_up A 20 (upd (A 20) (v) ((A 20 v) + (A 3 i))) = Z := ⟨_, rfl⟩
    refine x_ast_var (v) C X dX0_carryOut_145 rfl (by omega) eA_5 ?_
    refine j_goto C 177 dX0_carryOut_146 (by decide) ?_
    refine ret _ _ _ _ dX0_carryOut_177 ?_
    subst eA_5
    rw [eo, ev, vco_4 hv]
    have h9 := xAbs_var (v := v) (x := (A 20 v) + (A 3 i)) hV
    rw [hV.1] at h9 ⊢
    exact ⟨h9.1, h9.2, fun _ _ => rfl⟩
  · skip
    refine j_tableOut C 149 dX0_carryOut_20 (by decide) (by decide) ?_
    refine j_aload_n C dX0_carryOut_149 rfl ?_
    refine x_get_lastOut C X dX0_carryOut_150 ?_
    refine j_aload_n C dX0_carryOut_153 rfl ?_
    refine x_get_written C X dX0_carryOut_154 ?_
    refine j_top (y := nI (V.2.1)) (hV.2.1) ?_
    refine j_bipush C (v := nI (15)) dX0_carryOut_157 (by decide) ?_
    refine j_iand C (v := nI (V.2.1 % 16)) dX0_carryOut_159 (pk_andN (by omega) 4 (by decide)) ?_
    refine j_aload_n C dX0_carryOut_160 rfl ?_
    refine x_get_var C X dX0_carryOut_161 ?_
    refine j_iload_n C dX0_carryOut_164 rfl ?_
    refine x_ald_var (v := A 20 v) (v) C X dX0_carryOut_165 rfl (by omega) (rfl) ?_
    obtain ⟨A_6, eA_6⟩ : ∃ Z, va_up A 26 (upd (A 26) (V.2.1 % 16) (A 20 v)) = Z := ⟨_, rfl⟩
    refine x_ast_lastOut (V.2.1 % 16) C X dX0_carryOut_166 rfl (by omega) eA_6 ?_
    refine j_aload_n C dX0_carryOut_167 rfl ?_
    refine j_dup C dX0_carryOut_168 rfl ?_
    refine x_get_written C X dX0_carryOut_169 ?_
    refine j_top (y := nI (V.2.1)) (hV.2.1) ?_
    refine j_iconst C (v := nI (1)) dX0_carryOut_172 (by decide) ?_
    refine j_iadd C (v := nI ((V.2.1) + 1)) dX0_carryOut_173 (nI_add _ _) ?_
    obtain ⟨F_7, eF_7⟩ : ∃ Z, upd F 25 (nI ((V.2.1) + 1)) = Z := ⟨_, rfl⟩
    refine x_put_written C X dX0_carryOut_174 eF_7 ?_
    refine ret _ _ _ _ dX0_carryOut_177 ?_
    subst eA_6; subst eF_7
    rw [eo, ev, vco_5 hv]
    have h9 := xAbs_out (v := v) hV
    exact ⟨h9.1, h9.2, fun k hk => pk_un hk⟩
set_option maxHeartbeats 4000000 in
set_option maxRecDepth 100000 in
theorem x_enter_loop {g : jG} {w : xT} (C : jC g cX0_enter 3) (X : xX g w 1) {b s : Nat} (hb : b < 10) (hs : s ≤ 3) (F0 : jF) (A0 : jA) (es : A0 0 b = nI s) (hop : opOK A0) (Ve : aV) (hend : ∀ (F1 : jF) (A1 : jA), xAbs F1 A1 Ve → (∀ k, k ≠ 20 → k ≠ 26 → A1 k = A0 k) → (∀ k, k ≠ 25 → F1 k = F0 k) → J g (xP w F1 A1) 54 [some (.ref (xh w)), some (.int (nI b)), some (.int (nI (b * 3 + s)))] []) :
    ∀ (n i : Nat) (F : jF) (A : jA) (V : aV), i + n = s → (∀ k, k ≠ 20 → k ≠ 26 → A k = A0 k) → (∀ k, k ≠ 25 → F k = F0 k) → xAbs F A V → V.2.1 + n < 2 ^ 20 → vops A0 (b * 3 + i) n V = Ve → J g (xP w F A) 29 [some (.ref (xh w)), some (.int (nI b)), some (.int (nI (b * 3 + i)))] [] := by
  intro n
  induction n with
  | zero =>
    intro i F A V hi hA hF hV hn hv
    have e0 : A 0 b = nI s := by rw [hA 0 (by decide) (by decide)]; exact es
    refine j_iload_n C dX0_enter_29 rfl ?_
    refine j_iload_n C dX0_enter_30 rfl ?_
    refine j_iconst C (v := nI (3)) dX0_enter_31 (by decide) ?_
    refine j_imul C (v := nI (b * 3)) dX0_enter_32 (pk_mul _ _) ?_
    refine j_aload_n C dX0_enter_33 rfl ?_
    refine x_get_size C X dX0_enter_34 ?_
    refine j_iload_n C dX0_enter_37 rfl ?_
    refine x_ald_size (v := nI (s)) (b) C X dX0_enter_38 rfl (by omega) (e0) ?_
    refine j_iadd C (v := nI ((b * 3) + s)) dX0_enter_39 (nI_add _ _) ?_
    refine j_icmp_ge C 54 dX0_enter_40 (by decide) (fun c_40 => ?_) (fun c_40 => ?_)
    · skip
      have c_40 : (b * 3) + s ≤ b * 3 + i := (nI_leI (a := (b * 3) + s) (b := b * 3 + i) (by omega) (by omega)).mp c_40
      obtain rfl : i = s := by omega
      exact hend F A (by rw [← hv]; exact hV) hA hF
    · skip
      have c_40 : ¬ (b * 3) + s ≤ b * 3 + i := fun hh => c_40 ((nI_leI (a := (b * 3) + s) (b := b * 3 + i) (by omega) (by omega)).mpr hh)
      omega
  | succ n ih =>
    intro i F A V hi hA hF hV hn hv
    have e0 : A 0 b = nI s := by rw [hA 0 (by decide) (by decide)]; exact es
    refine j_iload_n C dX0_enter_29 rfl ?_
    refine j_iload_n C dX0_enter_30 rfl ?_
    refine j_iconst C (v := nI (3)) dX0_enter_31 (by decide) ?_
    refine j_imul C (v := nI (b * 3)) dX0_enter_32 (pk_mul _ _) ?_
    refine j_aload_n C dX0_enter_33 rfl ?_
    refine x_get_size C X dX0_enter_34 ?_
    refine j_iload_n C dX0_enter_37 rfl ?_
    refine x_ald_size (v := nI (s)) (b) C X dX0_enter_38 rfl (by omega) (e0) ?_
    refine j_iadd C (v := nI ((b * 3) + s)) dX0_enter_39 (nI_add _ _) ?_
    refine j_icmp_ge C 54 dX0_enter_40 (by decide) (fun c_40 => ?_) (fun c_40 => ?_)
    · skip
      have c_40 : (b * 3) + s ≤ b * 3 + i := (nI_leI (a := (b * 3) + s) (b := b * 3 + i) (by omega) (by omega)).mp c_40
      omega
    · skip
      have c_40 : ¬ (b * 3) + s ≤ b * 3 + i := fun hh => c_40 ((nI_leI (a := (b * 3) + s) (b := b * 3 + i) (by omega) (by omega)).mpr hh)
      refine j_aload_n C dX0_enter_43 rfl ?_
      refine j_iload_n C dX0_enter_44 rfl ?_
      refine x_callv C X (x_carryOut F A (b * 3 + i) (by omega) (opOK_congr (fun k hk => hA k (by omega) (by omega)) hop) V hV (by omega)) (lw_V q189 q191 qs11 q18 q192) (n := 1) (by decide +kernel) rfl (by decide) (by decide) dX0_enter_45 rfl (Nat.le_of_ble_eq_true rfl) rfl (fun F_2 A_3 hC => ?_)
      refine j_iinc C (v := nI (b * 3 + i + 1)) (L' := [some (.ref (xh w)), some (.int (nI b)), some (.int (nI (b * 3 + i + 1)))]) dX0_enter_48 rfl (nI_1 _) (Nat.le_of_ble_eq_true rfl) rfl rfl ?_
      refine j_goto C 29 dX0_enter_51 (by decide) ?_
      refine ih (i + 1) F_2 A_3 _ (by omega) (fun k h1 h2 => (hC.2.1 k h1 h2).trans (hA k h1 h2)) (fun k h1 => (hC.2.2 k h1).trans (hF k h1)) hC.1 (by have := vco_n (op := A 1 (b * 3 + i)) (v := A 2 (b * 3 + i)) (w := A 3 (b * 3 + i)) (V := V); omega) ?_
      rw [hA 1 (by decide) (by decide), hA 2 (by decide) (by decide), hA 3 (by decide) (by decide)]
      exact hv
set_option maxHeartbeats 4000000 in
set_option maxRecDepth 100000 in
theorem x_enter (F : jF) (A : jA) (b : Nat) (hb : b < 10) (s : Nat) (hs : s ≤ 3) (es : A 0 b = nI s) (hop : opOK A) (he : endOK A) (en : Nat) (hen : F 22 = nI en) (V : aV) (hV : xAbs F A V) (hn : V.2.1 + 3 < 2 ^ 20) : xMv yX0_enter cX0_enter 3 1 [.int (nI b)] F A (fun F1 A1 => xAbs F1 A1 (vent A b V) ∧ F1 22 = nI (en + 1) ∧ ((vnext A b (vent A b V).1 = -1 ∧ F1 21 = -1) ∨ ∃ t, t < 10 ∧ vnext A b (vent A b V).1 = nI t ∧ F1 21 = A 10 t) ∧ (∀ k, k ≠ 20 → k ≠ 24 → k ≠ 26 → A1 k = A k) ∧ ∀ k, k ≠ 21 → k ≠ 22 → k ≠ 23 → k ≠ 25 → F1 k = F k) := by
  refine xMv.intro (fun h => [some (.ref (h)), some (.int (nI b)), none]) (by decide) rfl (fun _ => rfl) (fun _ => rfl) (fun _ => Nat.le_of_ble_eq_true rfl) ?_
  intro g w C X ret
  show J g (xP w F A) 0 [some (.ref (xh w)), some (.int (nI b)), none] []
  refine j_aload_n C dX0_enter_0 rfl ?_
  refine j_dup C dX0_enter_1 rfl ?_
  refine x_get_entered C X dX0_enter_2 ?_
  refine j_top (y := nI (en)) (hen) ?_
  refine j_iconst C (v := nI (1)) dX0_enter_5 (by decide) ?_
  refine j_iadd C (v := nI (en + 1)) dX0_enter_6 (nI_add _ _) ?_
  obtain ⟨F_1, eF_1⟩ : ∃ Z, upd F 22 (nI (en + 1)) = Z := ⟨_, rfl⟩
  refine x_put_entered C X dX0_enter_7 eF_1 ?_
  refine j_aload_n C dX0_enter_10 rfl ?_
  refine x_get_seen C X dX0_enter_11 ?_
  refine j_iload_n C dX0_enter_14 rfl ?_
  refine j_dup2 C dX0_enter_15 rfl rfl ?_
  refine x_ald_seen (v := A 24 b) (b) C X dX0_enter_16 rfl (by omega) (rfl) ?_
  refine j_iconst C (v := nI (1)) dX0_enter_17 (by decide) ?_
  refine j_iadd C (v := (A 24 b) + (nI (1))) dX0_enter_18 rfl ?_
  obtain ⟨A_2, eA_2⟩ : ∃ Z, va_up A 24 (upd (A 24) (b) ((A 24 b) + (nI (1)))) = Z := ⟨_, rfl⟩
  refine x_ast_seen (b) C X dX0_enter_19 rfl (by omega) eA_2 ?_
  refine j_aload_n C dX0_enter_20 rfl ?_
  refine j_iload_n C dX0_enter_21 rfl ?_
  obtain ⟨F_3, eF_3⟩ : ∃ Z, upd F_1 23 (nI (b)) = Z := ⟨_, rfl⟩
  refine x_put_ended C X dX0_enter_22 eF_3 ?_
  refine j_iload_n C dX0_enter_25 rfl ?_
  refine j_iconst C (v := nI (3)) dX0_enter_26 (by decide) ?_
  refine j_imul C (v := nI (b * 3)) dX0_enter_27 (pk_mul _ _) ?_
  refine j_istore_n C (L' := [some (.ref (xh w)), some (.int (nI b)), some (.int (nI (b * 3)))]) dX0_enter_28 (Nat.le_of_ble_eq_true rfl) rfl rfl ?_
  refine x_enter_loop C X hb hs F_3 A_2 (by rw [← eA_2, up_n (by decide)]; exact es) (opOK_congr (fun k hk => by rw [← eA_2, up_n (by omega)]) hop) (vent A b V) (fun F1 A1 q1 q2 q3 => ?_) s 0 F_3 A_2 (V.1, V.2.1, V.2.2.1, upd V.2.2.2.1 b (V.2.2.2.1 b + 1), nI b) (by omega) (fun _ _ _ => rfl) (fun _ _ => rfl) ?_ (by simp only; omega) ?_
  · skip
    refine j_aload_n C dX0_enter_54 rfl ?_
    refine x_get_first C X dX0_enter_55 ?_
    refine j_iload_n C dX0_enter_58 rfl ?_
    refine x_ald_first (v := A 5 b) (b) C X dX0_enter_59 rfl (by omega) (congrFun (q2 5 (by decide) (by decide) |>.trans (by rw [← eA_2, up_n (by decide)])) b) ?_
    refine j_istore_n C (L' := [some (.ref (xh w)), some (.int (nI b)), some (.int (A 5 b))]) dX0_enter_60 (Nat.le_of_ble_eq_true rfl) rfl rfl ?_
    rcases (he b hb).1 with e4 | ⟨v, hv4, e4⟩
    · skip
      refine j_aload_n C dX0_enter_61 rfl ?_
      refine x_get_test C X dX0_enter_62 ?_
      refine j_iload_n C dX0_enter_65 rfl ?_
      refine x_ald_test (v := -1) (b) C X dX0_enter_66 rfl (by omega) ((congrFun (q2 4 (by decide) (by decide) |>.trans (by rw [← eA_2, up_n (by decide)])) b).trans e4) ?_
      refine j_if_lt C 91 dX0_enter_67 (by decide) (fun c_67 => ?_) (fun c_67 => ?_)
      · skip
        rcases (he b hb).2.1 with et | ⟨t, ht, et⟩
        · skip
          refine j_aload_n C dX0_enter_91 rfl ?_
          refine j_iload_n C dX0_enter_92 rfl ?_
          refine j_if_ge C 100 dX0_enter_93 (by decide) (fun c_93 => ?_) (fun c_93 => ?_)
          · skip
            exact absurd c_93 (by rw [et]; decide)
          · skip
            refine j_iconst C (v := -1) dX0_enter_96 (by decide) ?_
            refine j_goto C 106 dX0_enter_97 (by decide) ?_
            obtain ⟨F_11, eF_11⟩ : ∃ Z, upd F1 21 (-1) = Z := ⟨_, rfl⟩
            refine x_put_label C X dX0_enter_106 eF_11 ?_
            subst eF_11
            refine ret _ _ _ _ dX0_enter_109 ⟨?_, ?_, .inl ⟨(vnext_no e4).trans et, pk_us⟩, fun k h1 h2 h3 => ?_, fun k h1 h2 h3 h4 => ?_⟩
            · obtain ⟨a1, a2, a3, a4, a5⟩ := q1
              exact ⟨a1, (pk_un (by decide)).trans a2, a3, a4, (pk_un (by decide)).trans a5⟩
            · rw [pk_un (by decide), q3 22 (by decide), ← eF_3, pk_un (by decide), ← eF_1, pk_us]
            · rw [q2 k h1 h3, ← eA_2, up_n h2]
            · rw [pk_un h1, q3 k h4, ← eF_3, pk_un h3, ← eF_1, pk_un h2]
        · skip
          refine j_aload_n C dX0_enter_91 rfl ?_
          refine j_iload_n C dX0_enter_92 rfl ?_
          refine j_if_ge C 100 dX0_enter_93 (by decide) (fun c_93 => ?_) (fun c_93 => ?_)
          · skip
            refine j_aload_n C dX0_enter_100 rfl ?_
            refine x_get_place C X dX0_enter_101 ?_
            refine j_iload_n C dX0_enter_104 rfl ?_
            refine x_ald_place (v := A 10 t) (t) C X dX0_enter_105 et ht (congrFun (q2 10 (by decide) (by decide) |>.trans (by rw [← eA_2, up_n (by decide)])) t) ?_
            obtain ⟨F_12, eF_12⟩ : ∃ Z, upd F1 21 (A 10 t) = Z := ⟨_, rfl⟩
            refine x_put_label C X dX0_enter_106 eF_12 ?_
            subst eF_12
            refine ret _ _ _ _ dX0_enter_109 ⟨?_, ?_, .inr ⟨t, ht, (vnext_no e4).trans et, pk_us⟩, fun k h1 h2 h3 => ?_, fun k h1 h2 h3 h4 => ?_⟩
            · obtain ⟨a1, a2, a3, a4, a5⟩ := q1
              exact ⟨a1, (pk_un (by decide)).trans a2, a3, a4, (pk_un (by decide)).trans a5⟩
            · rw [pk_un (by decide), q3 22 (by decide), ← eF_3, pk_un (by decide), ← eF_1, pk_us]
            · rw [q2 k h1 h3, ← eA_2, up_n h2]
            · rw [pk_un h1, q3 k h4, ← eF_3, pk_un h3, ← eF_1, pk_un h2]
          · skip
            exact absurd (by rw [et]; exact nI_pos' (by omega)) c_93
      · skip
        exact absurd neg1_lt c_67
    · skip
      refine j_aload_n C dX0_enter_61 rfl ?_
      refine x_get_test C X dX0_enter_62 ?_
      refine j_iload_n C dX0_enter_65 rfl ?_
      refine x_ald_test (v := nI (v)) (b) C X dX0_enter_66 rfl (by omega) ((congrFun (q2 4 (by decide) (by decide) |>.trans (by rw [← eA_2, up_n (by decide)])) b).trans e4) ?_
      refine j_if_lt C 91 dX0_enter_67 (by decide) (fun c_67 => ?_) (fun c_67 => ?_)
      · skip
        have c_67 : v < 0 := (nI_ltI (a := v) (b := 0) (by omega) (by omega)).mp c_67
        omega
      · skip
        have c_67 : ¬ v < 0 := fun hh => c_67 ((nI_ltI (a := v) (b := 0) (by omega) (by omega)).mpr hh)
        refine j_aload_n C dX0_enter_70 rfl ?_
        refine x_get_var C X dX0_enter_71 ?_
        refine j_aload_n C dX0_enter_74 rfl ?_
        refine x_get_test C X dX0_enter_75 ?_
        refine j_iload_n C dX0_enter_78 rfl ?_
        refine x_ald_test (v := nI (v)) (b) C X dX0_enter_79 rfl (by omega) ((congrFun (q2 4 (by decide) (by decide) |>.trans (by rw [← eA_2, up_n (by decide)])) b).trans e4) ?_
        refine x_ald_var (v := A1 20 v) (v) C X dX0_enter_80 rfl (by omega) (rfl) ?_
        refine j_if_gt C 91 dX0_enter_81 (by decide) (fun c_81 => ?_) (fun c_81 => ?_)
        · skip
          rcases (he b hb).2.1 with et | ⟨t, ht, et⟩
          · skip
            refine j_aload_n C dX0_enter_91 rfl ?_
            refine j_iload_n C dX0_enter_92 rfl ?_
            refine j_if_ge C 100 dX0_enter_93 (by decide) (fun c_93 => ?_) (fun c_93 => ?_)
            · skip
              exact absurd c_93 (by rw [et]; decide)
            · skip
              refine j_iconst C (v := -1) dX0_enter_96 (by decide) ?_
              refine j_goto C 106 dX0_enter_97 (by decide) ?_
              obtain ⟨F_13, eF_13⟩ : ∃ Z, upd F1 21 (-1) = Z := ⟨_, rfl⟩
              refine x_put_label C X dX0_enter_106 eF_13 ?_
              subst eF_13
              refine ret _ _ _ _ dX0_enter_109 ⟨?_, ?_, .inl ⟨(vnext_hi hv4 e4 (by rw [← q1.1]; exact c_81)).trans et, pk_us⟩, fun k h1 h2 h3 => ?_, fun k h1 h2 h3 h4 => ?_⟩
              · obtain ⟨a1, a2, a3, a4, a5⟩ := q1
                exact ⟨a1, (pk_un (by decide)).trans a2, a3, a4, (pk_un (by decide)).trans a5⟩
              · rw [pk_un (by decide), q3 22 (by decide), ← eF_3, pk_un (by decide), ← eF_1, pk_us]
              · rw [q2 k h1 h3, ← eA_2, up_n h2]
              · rw [pk_un h1, q3 k h4, ← eF_3, pk_un h3, ← eF_1, pk_un h2]
          · skip
            refine j_aload_n C dX0_enter_91 rfl ?_
            refine j_iload_n C dX0_enter_92 rfl ?_
            refine j_if_ge C 100 dX0_enter_93 (by decide) (fun c_93 => ?_) (fun c_93 => ?_)
            · skip
              refine j_aload_n C dX0_enter_100 rfl ?_
              refine x_get_place C X dX0_enter_101 ?_
              refine j_iload_n C dX0_enter_104 rfl ?_
              refine x_ald_place (v := A 10 t) (t) C X dX0_enter_105 et ht (congrFun (q2 10 (by decide) (by decide) |>.trans (by rw [← eA_2, up_n (by decide)])) t) ?_
              obtain ⟨F_14, eF_14⟩ : ∃ Z, upd F1 21 (A 10 t) = Z := ⟨_, rfl⟩
              refine x_put_label C X dX0_enter_106 eF_14 ?_
              subst eF_14
              refine ret _ _ _ _ dX0_enter_109 ⟨?_, ?_, .inr ⟨t, ht, (vnext_hi hv4 e4 (by rw [← q1.1]; exact c_81)).trans et, pk_us⟩, fun k h1 h2 h3 => ?_, fun k h1 h2 h3 h4 => ?_⟩
              · obtain ⟨a1, a2, a3, a4, a5⟩ := q1
                exact ⟨a1, (pk_un (by decide)).trans a2, a3, a4, (pk_un (by decide)).trans a5⟩
              · rw [pk_un (by decide), q3 22 (by decide), ← eF_3, pk_un (by decide), ← eF_1, pk_us]
              · rw [q2 k h1 h3, ← eA_2, up_n h2]
              · rw [pk_un h1, q3 k h4, ← eF_3, pk_un h3, ← eF_1, pk_un h2]
            · skip
              exact absurd (by rw [et]; exact nI_pos' (by omega)) c_93
        · skip
          refine j_aload_n C dX0_enter_84 rfl ?_
          refine x_get_second C X dX0_enter_85 ?_
          refine j_iload_n C dX0_enter_88 rfl ?_
          refine x_ald_second (v := A 6 b) (b) C X dX0_enter_89 rfl (by omega) (congrFun (q2 6 (by decide) (by decide) |>.trans (by rw [← eA_2, up_n (by decide)])) b) ?_
          refine j_istore_n C (L' := [some (.ref (xh w)), some (.int (nI b)), some (.int (A 6 b))]) dX0_enter_90 (Nat.le_of_ble_eq_true rfl) rfl rfl ?_
          rcases (he b hb).2.2 with et | ⟨t, ht, et⟩
          · skip
            refine j_aload_n C dX0_enter_91 rfl ?_
            refine j_iload_n C dX0_enter_92 rfl ?_
            refine j_if_ge C 100 dX0_enter_93 (by decide) (fun c_93 => ?_) (fun c_93 => ?_)
            · skip
              exact absurd c_93 (by rw [et]; decide)
            · skip
              refine j_iconst C (v := -1) dX0_enter_96 (by decide) ?_
              refine j_goto C 106 dX0_enter_97 (by decide) ?_
              obtain ⟨F_15, eF_15⟩ : ∃ Z, upd F1 21 (-1) = Z := ⟨_, rfl⟩
              refine x_put_label C X dX0_enter_106 eF_15 ?_
              subst eF_15
              refine ret _ _ _ _ dX0_enter_109 ⟨?_, ?_, .inl ⟨(vnext_lo hv4 e4 (fun hh => c_81 (by rw [q1.1]; exact hh))).trans et, pk_us⟩, fun k h1 h2 h3 => ?_, fun k h1 h2 h3 h4 => ?_⟩
              · obtain ⟨a1, a2, a3, a4, a5⟩ := q1
                exact ⟨a1, (pk_un (by decide)).trans a2, a3, a4, (pk_un (by decide)).trans a5⟩
              · rw [pk_un (by decide), q3 22 (by decide), ← eF_3, pk_un (by decide), ← eF_1, pk_us]
              · rw [q2 k h1 h3, ← eA_2, up_n h2]
              · rw [pk_un h1, q3 k h4, ← eF_3, pk_un h3, ← eF_1, pk_un h2]
          · skip
            refine j_aload_n C dX0_enter_91 rfl ?_
            refine j_iload_n C dX0_enter_92 rfl ?_
            refine j_if_ge C 100 dX0_enter_93 (by decide) (fun c_93 => ?_) (fun c_93 => ?_)
            · skip
              refine j_aload_n C dX0_enter_100 rfl ?_
              refine x_get_place C X dX0_enter_101 ?_
              refine j_iload_n C dX0_enter_104 rfl ?_
              refine x_ald_place (v := A 10 t) (t) C X dX0_enter_105 et ht (congrFun (q2 10 (by decide) (by decide) |>.trans (by rw [← eA_2, up_n (by decide)])) t) ?_
              obtain ⟨F_16, eF_16⟩ : ∃ Z, upd F1 21 (A 10 t) = Z := ⟨_, rfl⟩
              refine x_put_label C X dX0_enter_106 eF_16 ?_
              subst eF_16
              refine ret _ _ _ _ dX0_enter_109 ⟨?_, ?_, .inr ⟨t, ht, (vnext_lo hv4 e4 (fun hh => c_81 (by rw [q1.1]; exact hh))).trans et, pk_us⟩, fun k h1 h2 h3 => ?_, fun k h1 h2 h3 h4 => ?_⟩
              · obtain ⟨a1, a2, a3, a4, a5⟩ := q1
                exact ⟨a1, (pk_un (by decide)).trans a2, a3, a4, (pk_un (by decide)).trans a5⟩
              · rw [pk_un (by decide), q3 22 (by decide), ← eF_3, pk_un (by decide), ← eF_1, pk_us]
              · rw [q2 k h1 h3, ← eA_2, up_n h2]
              · rw [pk_un h1, q3 k h4, ← eF_3, pk_un h3, ← eF_1, pk_un h2]
            · skip
              exact absurd (by rw [et]; exact nI_pos' (by omega)) c_93
  · obtain ⟨v1, v2, v3, v4, v5⟩ := hV
    refine ⟨?_, ?_, fun j a b => ?_, fun j a => ?_, ?_⟩
    · rw [← eA_2, up_n (by decide)]; exact v1
    · rw [← eF_3, pk_un (by decide), ← eF_1, pk_un (by decide)]; exact v2
    · rw [← eA_2, up_n (by decide)]; exact v3 j a b
    · rw [← eA_2, up_s]
      show upd (A 24) b ((A 24 b) + (nI 1)) j = upd V.2.2.2.1 b (V.2.2.2.1 b + 1) j
      by_cases hj : j = b
      · subst hj
        rw [pk_us, pk_us, v4 j a]
        rfl
      · rw [pk_un hj, pk_un hj]; exact v4 j a
    · rw [← eF_3, pk_us]
  · rw [vent_eq hs es]
    exact vops_congr (fun k hk => by rw [← eA_2, up_n (by omega)]) s (b * 3) _
set_option maxHeartbeats 4000000 in
set_option maxRecDepth 100000 in
theorem x_perform_pass (F : jF) (A : jA) (p : Nat) (hp : p < 64) (a lb : Nat) (hw : A 17 p = nI 1) (hlb : F 21 = nI lb) (hne : lb ≠ a) (ha : a < 64) (hb : lb < 64) : xMi yX0_perform cX0_perform 3 .int 2 [.int (nI p), .int (nI a)] F A (fun r F1 A1 => F1 = F ∧ A1 = A ∧ r = nI (p + 1)) := by
  refine xMi.intro (fun h => [some (.ref (h)), some (.int (nI p)), some (.int (nI a))]) (by decide) rfl (fun _ => rfl) (fun _ => rfl) (fun _ => Nat.le_of_ble_eq_true rfl) ?_
  intro g w C X ret
  show J g (xP w F A) 0 [some (.ref (xh w)), some (.int (nI p)), some (.int (nI a))] []
  refine j_aload_n C dX0_perform_0 rfl ?_
  refine x_get_word C X dX0_perform_1 ?_
  refine j_iload_n C dX0_perform_4 rfl ?_
  refine x_ald_word (v := nI (1)) (p) C X dX0_perform_5 rfl (by omega) (hw) ?_
  refine j_iconst C (v := nI (1)) dX0_perform_6 (by decide) ?_
  refine j_icmp_ne C 32 dX0_perform_7 (by decide) (fun c_7 => ?_) (fun c_7 => ?_)
  · skip
    have c_7 : ¬ (1 = 1) := fun hh => c_7 ((nI_eq (a := 1) (b := 1) (by omega) (by omega)).mpr hh)
    exact absurd rfl c_7
  · skip
    have c_7 : 1 = 1 := (nI_eq (a := 1) (b := 1) (by omega) (by omega)).mp c_7
    refine j_aload_n C dX0_perform_10 rfl ?_
    refine x_get_label C X dX0_perform_11 ?_
    refine j_top (y := nI (lb)) (hlb) ?_
    refine j_iload_n C dX0_perform_14 rfl ?_
    refine j_icmp_ne C 28 dX0_perform_15 (by decide) (fun c_15 => ?_) (fun c_15 => ?_)
    · skip
      have c_15 : ¬ (lb = a) := fun hh => c_15 ((nI_eq (a := lb) (b := a) (by omega) (by omega)).mpr hh)
      refine j_iload_n C dX0_perform_28 rfl ?_
      refine j_iconst C (v := nI (1)) dX0_perform_29 (by decide) ?_
      refine j_iadd C (v := nI (p + 1)) dX0_perform_30 (nI_add _ _) ?_
      exact ret _ _ _ _ _ dX0_perform_31 rfl ⟨rfl, rfl, rfl⟩
    · skip
      have c_15 : lb = a := (nI_eq (a := lb) (b := a) (by omega) (by omega)).mp c_15
      exact absurd c_15 hne
set_option maxHeartbeats 4000000 in
set_option maxRecDepth 100000 in
theorem x_perform_enter (F : jF) (A : jA) (p : Nat) (hp : p < 64) (a b : Nat) (ha : a < 10) (hw : A 17 p = nI 1) (hlb : F 21 = nI a) (eo : A 9 a = nI b) (hb : b < 10) (s : Nat) (hs : s ≤ 3) (es : A 0 b = nI s) (hop : opOK A) (he : endOK A) (en : Nat) (hen : F 22 = nI en) (V : aV) (hV : xAbs F A V) (hn : V.2.1 + 3 < 2 ^ 20) : xMi yX0_perform cX0_perform 3 .int 2 [.int (nI p), .int (nI a)] F A (fun r F1 A1 => r = nI (p + 1) ∧ xAbs F1 A1 (vent A b V) ∧ F1 22 = nI (en + 1) ∧ ((vnext A b (vent A b V).1 = -1 ∧ F1 21 = -1) ∨ ∃ t, t < 10 ∧ vnext A b (vent A b V).1 = nI t ∧ F1 21 = A 10 t) ∧ (∀ k, k ≠ 20 → k ≠ 24 → k ≠ 26 → A1 k = A k) ∧ ∀ k, k ≠ 21 → k ≠ 22 → k ≠ 23 → k ≠ 25 → F1 k = F k) := by
  refine xMi.intro (fun h => [some (.ref (h)), some (.int (nI p)), some (.int (nI a))]) (by decide) rfl (fun _ => rfl) (fun _ => rfl) (fun _ => Nat.le_of_ble_eq_true rfl) ?_
  intro g w C X ret
  show J g (xP w F A) 0 [some (.ref (xh w)), some (.int (nI p)), some (.int (nI a))] []
  refine j_aload_n C dX0_perform_0 rfl ?_
  refine x_get_word C X dX0_perform_1 ?_
  refine j_iload_n C dX0_perform_4 rfl ?_
  refine x_ald_word (v := nI (1)) (p) C X dX0_perform_5 rfl (by omega) (hw) ?_
  refine j_iconst C (v := nI (1)) dX0_perform_6 (by decide) ?_
  refine j_icmp_ne C 32 dX0_perform_7 (by decide) (fun c_7 => ?_) (fun c_7 => ?_)
  · skip
    have c_7 : ¬ (1 = 1) := fun hh => c_7 ((nI_eq (a := 1) (b := 1) (by omega) (by omega)).mpr hh)
    exact absurd rfl c_7
  · skip
    have c_7 : 1 = 1 := (nI_eq (a := 1) (b := 1) (by omega) (by omega)).mp c_7
    refine j_aload_n C dX0_perform_10 rfl ?_
    refine x_get_label C X dX0_perform_11 ?_
    refine j_top (y := nI (a)) (hlb) ?_
    refine j_iload_n C dX0_perform_14 rfl ?_
    refine j_icmp_ne C 28 dX0_perform_15 (by decide) (fun c_15 => ?_) (fun c_15 => ?_)
    · skip
      have c_15 : ¬ (a = a) := fun hh => c_15 ((nI_eq (a := a) (b := a) (by omega) (by omega)).mpr hh)
      exact absurd rfl c_15
    · skip
      have c_15 : a = a := (nI_eq (a := a) (b := a) (by omega) (by omega)).mp c_15
      refine j_aload_n C dX0_perform_18 rfl ?_
      refine j_aload_n C dX0_perform_19 rfl ?_
      refine x_get_order C X dX0_perform_20 ?_
      refine j_iload_n C dX0_perform_23 rfl ?_
      refine x_ald_order (v := nI (b)) (a) C X dX0_perform_24 rfl (by omega) (eo) ?_
      refine x_callv C X (x_enter F A b hb s hs es hop he en hen V hV hn) (lw_V q185 q187 qs10 q18 q188) (n := 1) (by decide +kernel) rfl (by decide) (by decide) dX0_perform_25 rfl (Nat.le_of_ble_eq_true rfl) rfl (fun F_2 A_3 hE => ?_)
      refine j_iload_n C dX0_perform_28 rfl ?_
      refine j_iconst C (v := nI (1)) dX0_perform_29 (by decide) ?_
      refine j_iadd C (v := nI (p + 1)) dX0_perform_30 (nI_add _ _) ?_
      exact ret _ _ _ _ _ dX0_perform_31 rfl ⟨rfl, hE⟩
set_option maxHeartbeats 4000000 in
set_option maxRecDepth 100000 in
theorem x_perform_loop (F : jF) (A : jA) (p : Nat) (hp : p < 64) (x : Int32) (hw : A 17 p = nI 0) : xMi yX0_perform cX0_perform 3 .int 2 [.int (nI p), .int (x)] F A (fun r F1 A1 => F1 = F ∧ A1 = A ∧ r = nI (p + 1)) := by
  refine xMi.intro (fun h => [some (.ref (h)), some (.int (nI p)), some (.int (x))]) (by decide) rfl (fun _ => rfl) (fun _ => rfl) (fun _ => Nat.le_of_ble_eq_true rfl) ?_
  intro g w C X ret
  show J g (xP w F A) 0 [some (.ref (xh w)), some (.int (nI p)), some (.int (x))] []
  refine j_aload_n C dX0_perform_0 rfl ?_
  refine x_get_word C X dX0_perform_1 ?_
  refine j_iload_n C dX0_perform_4 rfl ?_
  refine x_ald_word (v := nI (0)) (p) C X dX0_perform_5 rfl (by omega) (hw) ?_
  refine j_iconst C (v := nI (1)) dX0_perform_6 (by decide) ?_
  refine j_icmp_ne C 32 dX0_perform_7 (by decide) (fun c_7 => ?_) (fun c_7 => ?_)
  · skip
    have c_7 : ¬ (0 = 1) := fun hh => c_7 ((nI_eq (a := 0) (b := 1) (by omega) (by omega)).mpr hh)
    refine j_aload_n C dX0_perform_32 rfl ?_
    refine x_get_word C X dX0_perform_33 ?_
    refine j_iload_n C dX0_perform_36 rfl ?_
    refine x_ald_word (v := nI (0)) (p) C X dX0_perform_37 rfl (by omega) (hw) ?_
    refine j_iconst C (v := nI (2)) dX0_perform_38 (by decide) ?_
    refine j_icmp_ne C 77 dX0_perform_39 (by decide) (fun c_39 => ?_) (fun c_39 => ?_)
    · skip
      have c_39 : ¬ (0 = 2) := fun hh => c_39 ((nI_eq (a := 0) (b := 2) (by omega) (by omega)).mpr hh)
      refine j_iload_n C dX0_perform_77 rfl ?_
      refine j_iconst C (v := nI (1)) dX0_perform_78 (by decide) ?_
      refine j_iadd C (v := nI (p + 1)) dX0_perform_79 (nI_add _ _) ?_
      exact ret _ _ _ _ _ dX0_perform_80 rfl ⟨rfl, rfl, rfl⟩
    · skip
      have c_39 : 0 = 2 := (nI_eq (a := 0) (b := 2) (by omega) (by omega)).mp c_39
      omega
  · skip
    have c_7 : 0 = 1 := (nI_eq (a := 0) (b := 1) (by omega) (by omega)).mp c_7
    omega
set_option maxHeartbeats 4000000 in
set_option maxRecDepth 100000 in
theorem x_perform_out (F : jF) (A : jA) (p : Nat) (hp : p < 64) (l lb f t : Nat) (hl : l < 20) (hw : A 17 p = nI 2) (hlb : F 21 = nI lb) (hb : lb < 64) (ef : A 14 l = nI f) (hf : f < 64) (et : A 15 l = nI t) (ht : t < 64) (ho : lb < f ∨ t < lb) : xMi yX0_perform cX0_perform 3 .int 2 [.int (nI p), .int (nI l)] F A (fun r F1 A1 => F1 = F ∧ A1 = A ∧ r = nI (p + 1)) := by
  refine xMi.intro (fun h => [some (.ref (h)), some (.int (nI p)), some (.int (nI l))]) (by decide) rfl (fun _ => rfl) (fun _ => rfl) (fun _ => Nat.le_of_ble_eq_true rfl) ?_
  intro g w C X ret
  show J g (xP w F A) 0 [some (.ref (xh w)), some (.int (nI p)), some (.int (nI l))] []
  refine j_aload_n C dX0_perform_0 rfl ?_
  refine x_get_word C X dX0_perform_1 ?_
  refine j_iload_n C dX0_perform_4 rfl ?_
  refine x_ald_word (v := nI (2)) (p) C X dX0_perform_5 rfl (by omega) (hw) ?_
  refine j_iconst C (v := nI (1)) dX0_perform_6 (by decide) ?_
  refine j_icmp_ne C 32 dX0_perform_7 (by decide) (fun c_7 => ?_) (fun c_7 => ?_)
  · skip
    have c_7 : ¬ (2 = 1) := fun hh => c_7 ((nI_eq (a := 2) (b := 1) (by omega) (by omega)).mpr hh)
    refine j_aload_n C dX0_perform_32 rfl ?_
    refine x_get_word C X dX0_perform_33 ?_
    refine j_iload_n C dX0_perform_36 rfl ?_
    refine x_ald_word (v := nI (2)) (p) C X dX0_perform_37 rfl (by omega) (hw) ?_
    refine j_iconst C (v := nI (2)) dX0_perform_38 (by decide) ?_
    refine j_icmp_ne C 77 dX0_perform_39 (by decide) (fun c_39 => ?_) (fun c_39 => ?_)
    · skip
      have c_39 : ¬ (2 = 2) := fun hh => c_39 ((nI_eq (a := 2) (b := 2) (by omega) (by omega)).mpr hh)
      exact absurd rfl c_39
    · skip
      have c_39 : 2 = 2 := (nI_eq (a := 2) (b := 2) (by omega) (by omega)).mp c_39
      refine j_aload_n C dX0_perform_42 rfl ?_
      refine x_get_label C X dX0_perform_43 ?_
      refine j_top (y := nI (lb)) (hlb) ?_
      refine j_aload_n C dX0_perform_46 rfl ?_
      refine x_get_from C X dX0_perform_47 ?_
      refine j_iload_n C dX0_perform_50 rfl ?_
      refine x_ald_from (v := nI (f)) (l) C X dX0_perform_51 rfl (by omega) (ef) ?_
      refine j_icmp_lt C 77 dX0_perform_52 (by decide) (fun c_52 => ?_) (fun c_52 => ?_)
      · skip
        have c_52 : lb < f := (nI_ltI (a := lb) (b := f) (by omega) (by omega)).mp c_52
        refine j_iload_n C dX0_perform_77 rfl ?_
        refine j_iconst C (v := nI (1)) dX0_perform_78 (by decide) ?_
        refine j_iadd C (v := nI (p + 1)) dX0_perform_79 (nI_add _ _) ?_
        exact ret _ _ _ _ _ dX0_perform_80 rfl ⟨rfl, rfl, rfl⟩
      · skip
        have c_52 : ¬ lb < f := fun hh => c_52 ((nI_ltI (a := lb) (b := f) (by omega) (by omega)).mpr hh)
        refine j_aload_n C dX0_perform_55 rfl ?_
        refine x_get_label C X dX0_perform_56 ?_
        refine j_top (y := nI (lb)) (hlb) ?_
        refine j_aload_n C dX0_perform_59 rfl ?_
        refine x_get_to C X dX0_perform_60 ?_
        refine j_iload_n C dX0_perform_63 rfl ?_
        refine x_ald_to (v := nI (t)) (l) C X dX0_perform_64 rfl (by omega) (et) ?_
        refine j_icmp_gt C 77 dX0_perform_65 (by decide) (fun c_65 => ?_) (fun c_65 => ?_)
        · skip
          have c_65 : t < lb := (nI_ltI (a := t) (b := lb) (by omega) (by omega)).mp c_65
          refine j_iload_n C dX0_perform_77 rfl ?_
          refine j_iconst C (v := nI (1)) dX0_perform_78 (by decide) ?_
          refine j_iadd C (v := nI (p + 1)) dX0_perform_79 (nI_add _ _) ?_
          exact ret _ _ _ _ _ dX0_perform_80 rfl ⟨rfl, rfl, rfl⟩
        · skip
          have c_65 : ¬ t < lb := fun hh => c_65 ((nI_ltI (a := t) (b := lb) (by omega) (by omega)).mpr hh)
          omega
  · skip
    have c_7 : 2 = 1 := (nI_eq (a := 2) (b := 1) (by omega) (by omega)).mp c_7
    omega
set_option maxHeartbeats 4000000 in
set_option maxRecDepth 100000 in
theorem x_perform_back (F : jF) (A : jA) (p : Nat) (hp : p < 64) (l lb f t q : Nat) (hl : l < 20) (hw : A 17 p = nI 2) (hlb : F 21 = nI lb) (hb : lb < 64) (ef : A 14 l = nI f) (hf : f ≤ lb) (et : A 15 l = nI t) (ht : t < 64) (hx : lb ≤ t) (eq : A 19 l = nI q) : xMi yX0_perform cX0_perform 3 .int 2 [.int (nI p), .int (nI l)] F A (fun r F1 A1 => F1 = F ∧ A1 = A ∧ r = nI (q + 1)) := by
  refine xMi.intro (fun h => [some (.ref (h)), some (.int (nI p)), some (.int (nI l))]) (by decide) rfl (fun _ => rfl) (fun _ => rfl) (fun _ => Nat.le_of_ble_eq_true rfl) ?_
  intro g w C X ret
  show J g (xP w F A) 0 [some (.ref (xh w)), some (.int (nI p)), some (.int (nI l))] []
  refine j_aload_n C dX0_perform_0 rfl ?_
  refine x_get_word C X dX0_perform_1 ?_
  refine j_iload_n C dX0_perform_4 rfl ?_
  refine x_ald_word (v := nI (2)) (p) C X dX0_perform_5 rfl (by omega) (hw) ?_
  refine j_iconst C (v := nI (1)) dX0_perform_6 (by decide) ?_
  refine j_icmp_ne C 32 dX0_perform_7 (by decide) (fun c_7 => ?_) (fun c_7 => ?_)
  · skip
    have c_7 : ¬ (2 = 1) := fun hh => c_7 ((nI_eq (a := 2) (b := 1) (by omega) (by omega)).mpr hh)
    refine j_aload_n C dX0_perform_32 rfl ?_
    refine x_get_word C X dX0_perform_33 ?_
    refine j_iload_n C dX0_perform_36 rfl ?_
    refine x_ald_word (v := nI (2)) (p) C X dX0_perform_37 rfl (by omega) (hw) ?_
    refine j_iconst C (v := nI (2)) dX0_perform_38 (by decide) ?_
    refine j_icmp_ne C 77 dX0_perform_39 (by decide) (fun c_39 => ?_) (fun c_39 => ?_)
    · skip
      have c_39 : ¬ (2 = 2) := fun hh => c_39 ((nI_eq (a := 2) (b := 2) (by omega) (by omega)).mpr hh)
      exact absurd rfl c_39
    · skip
      have c_39 : 2 = 2 := (nI_eq (a := 2) (b := 2) (by omega) (by omega)).mp c_39
      refine j_aload_n C dX0_perform_42 rfl ?_
      refine x_get_label C X dX0_perform_43 ?_
      refine j_top (y := nI (lb)) (hlb) ?_
      refine j_aload_n C dX0_perform_46 rfl ?_
      refine x_get_from C X dX0_perform_47 ?_
      refine j_iload_n C dX0_perform_50 rfl ?_
      refine x_ald_from (v := nI (f)) (l) C X dX0_perform_51 rfl (by omega) (ef) ?_
      refine j_icmp_lt C 77 dX0_perform_52 (by decide) (fun c_52 => ?_) (fun c_52 => ?_)
      · skip
        have c_52 : lb < f := (nI_ltI (a := lb) (b := f) (by omega) (by omega)).mp c_52
        omega
      · skip
        have c_52 : ¬ lb < f := fun hh => c_52 ((nI_ltI (a := lb) (b := f) (by omega) (by omega)).mpr hh)
        refine j_aload_n C dX0_perform_55 rfl ?_
        refine x_get_label C X dX0_perform_56 ?_
        refine j_top (y := nI (lb)) (hlb) ?_
        refine j_aload_n C dX0_perform_59 rfl ?_
        refine x_get_to C X dX0_perform_60 ?_
        refine j_iload_n C dX0_perform_63 rfl ?_
        refine x_ald_to (v := nI (t)) (l) C X dX0_perform_64 rfl (by omega) (et) ?_
        refine j_icmp_gt C 77 dX0_perform_65 (by decide) (fun c_65 => ?_) (fun c_65 => ?_)
        · skip
          have c_65 : t < lb := (nI_ltI (a := t) (b := lb) (by omega) (by omega)).mp c_65
          omega
        · skip
          have c_65 : ¬ t < lb := fun hh => c_65 ((nI_ltI (a := t) (b := lb) (by omega) (by omega)).mpr hh)
          refine j_aload_n C dX0_perform_68 rfl ?_
          refine x_get_loopStart C X dX0_perform_69 ?_
          refine j_iload_n C dX0_perform_72 rfl ?_
          refine x_ald_loopStart (v := nI (q)) (l) C X dX0_perform_73 rfl (by omega) (eq) ?_
          refine j_iconst C (v := nI (1)) dX0_perform_74 (by decide) ?_
          refine j_iadd C (v := nI (q + 1)) dX0_perform_75 (nI_add _ _) ?_
          exact ret _ _ _ _ _ dX0_perform_76 rfl ⟨rfl, rfl, rfl⟩
  · skip
    have c_7 : 2 = 1 := (nI_eq (a := 2) (b := 1) (by omega) (by omega)).mp c_7
    omega
end
section
/-! what prepare leaves, and how a run passes its words -/
def cnt (M : Nat → Bool) : Nat → Nat
  | 0 => 0
  | n + 1 => cnt M n + (if M n = true then 1 else 0)
/-- the order of the blocks: o p is the block at place p -/
def pOrd (F : jF) (A : jA) (c : Nat) (o : Nat → Nat) : Prop := 1 ≤ c ∧ c ≤ 10 ∧ F 8 = nI c ∧ o 0 = 0 ∧ (∀ p, p < c → o p < 10 ∧ A 9 p = nI (o p) ∧ A 10 (o p) = nI p) ∧ (∀ p x, p < c → x < 10 → (A 5 (o p) = nI x ∨ A 6 (o p) = nI x) → ∃ q, q < c ∧ o q = x) ∧
  (∀ T : Nat → Prop, T 0 → (∀ a x, a < 10 → x < 10 → T a → (A 5 a = nI x ∨ A 6 a = nI x) → T x) → ∀ p, p < c → T (o p)) ∧ ∃ M : Nat → Bool, cnt M 10 = c ∧ ∀ b, b < 10 → (M b = true ↔ ∃ p, p < c ∧ o p = b)
/-- a loop from place a that reaches b at least -/
def Cov (A : jA) (n a b : Nat) : Prop := ∃ l t, l < n ∧ A 14 l = nI a ∧ A 15 l = nI t ∧ b ≤ t ∧ t < 10
def pLoop (F : jF) (A : jA) (c n : Nat) : Prop := F 13 = nI n ∧ n ≤ 10 ∧ (∀ l, l < n → ∃ a b, A 14 l = nI a ∧ A 15 l = nI b ∧ a ≤ b ∧ b < c) ∧ ∀ l k, l < n → k < n → A 14 l = A 14 k → l = k
def pBack (A : jA) (c n : Nat) (o : Nat → Nat) : Prop := ∀ p x q, p < c → x < 10 → (A 5 (o p) = nI x ∨ A 6 (o p) = nI x) → q < c → o q = x → q ≤ p → Cov A n q p
def pCode (F : jF) (A : jA) (c n len : Nat) (cp : Nat → Nat) : Prop := F 16 = nI len ∧ len ≤ 30 ∧ (∀ p, p < c → cp p < len ∧ A 17 (cp p) = nI 1 ∧ A 18 (cp p) = nI p) ∧ (∀ p q, p < q → q < c → cp p < cp q) ∧
  (∀ i, i < len → A 17 i = nI 0 ∨ (A 17 i = nI 1 ∧ ∃ p, p < c ∧ A 18 i = nI p ∧ cp p = i) ∨ (A 17 i = nI 2 ∧ ∃ l t, l < n ∧ A 18 i = nI l ∧ A 15 l = nI t ∧ t < c ∧ cp t < i)) ∧
  (∀ l, l < n → ∃ i t, i < len ∧ A 17 i = nI 2 ∧ A 18 i = nI l ∧ A 15 l = nI t ∧ t < c ∧ cp t < i) ∧ ∀ l, l < n → ∃ q a, A 19 l = nI q ∧ A 14 l = nI a ∧ a < c ∧ q + 1 ≤ cp a
def Prep (F : jF) (A : jA) : Prop := ∃ (c n len : Nat) (o cp : Nat → Nat), pOrd F A c o ∧ pLoop F A c n ∧ pBack A c n o ∧ pCode F A c n len cp
theorem Prep_frame {F F1 : jF} {A A1 : jA} (hA : ∀ k, 5 ≤ k → k ≤ 19 → A1 k = A k) (h8 : F1 8 = F 8) (h13 : F1 13 = F 13) (h16 : F1 16 = F 16) (h : Prep F A) : Prep F1 A1 := by
  unfold Prep pOrd pLoop pBack pCode Cov at *
  rw [h8, h13, h16, hA 5 (by decide) (by decide), hA 6 (by decide) (by decide), hA 9 (by decide) (by decide), hA 10 (by decide) (by decide), hA 14 (by decide) (by decide), hA 15 (by decide) (by decide), hA 17 (by decide) (by decide), hA 18 (by decide) (by decide), hA 19 (by decide) (by decide)]
  exact h
/-- between two blocks: at word p, bound for place lb, at most m words to go -/
def rPh (A : jA) (n len : Nat) (cp : Nat → Nat) (p lb m : Nat) : Prop := (p ≤ cp lb ∧ m = cp lb - p + 1) ∨ (cp lb < p ∧ m = (len - p) + cp lb + 1 ∧ ∃ i l f t, p ≤ i ∧ i < len ∧ l < n ∧ A 17 i = nI 2 ∧ A 18 i = nI l ∧ A 14 l = nI f ∧ A 15 l = nI t ∧ f ≤ lb ∧ lb ≤ t ∧ t < 10)
section RP
variable {F : jF} {A : jA} {c n len p lb m : Nat} {cp : Nat → Nat}
theorem rPh_len (hC : pCode F A c n len cp) (hlb : lb < c) (h : rPh A n len cp p lb m) : p < len ∧ 1 ≤ m ∧ m ≤ 60 := by
  obtain ⟨-, h30, h1, -⟩ := hC
  have h2 := (h1 lb hlb).1
  rcases h with ⟨h3, h4⟩ | ⟨h3, h4, i, l, f, t, h5, h6, -⟩
  · omega
  · omega
theorem rPh_next (hC : pCode F A c n len cp) (hlb : lb < c) (h : rPh A n len cp p lb m) (h1 : p ≠ cp lb) (h2 : ∀ l f t, l < n → A 17 p = nI 2 → A 18 p = nI l → A 14 l = nI f → A 15 l = nI t → f ≤ lb → lb ≤ t → t < 10 → False) : ∃ k, k < m ∧ rPh A n len cp (p + 1) lb k := by
  have hlen := rPh_len hC hlb h
  rcases h with ⟨h3, h4⟩ | ⟨h3, h4, i, l, f, t, h5, h6, h7, h8, h9, ha, hb, hc, hd, he⟩
  · exact ⟨cp lb - (p + 1) + 1, by omega, .inl ⟨by omega, rfl⟩⟩
  · have hi : p ≠ i := by
      intro e
      subst e
      exact h2 l f t h7 h8 h9 ha hb hc hd he
    exact ⟨(len - (p + 1)) + cp lb + 1, by omega, .inr ⟨by omega, rfl, i, l, f, t, by omega, h6, h7, h8, h9, ha, hb, hc, hd, he⟩⟩
theorem cp_le (hC : pCode F A c n len cp) {a b : Nat} (hab : a ≤ b) (hb : b < c) : cp a ≤ cp b := by
  rcases Nat.lt_or_eq_of_le hab with h | h
  · exact Nat.le_of_lt (hC.2.2.2.1 a b h hb)
  · rw [h]; exact Nat.le_refl _
theorem rPh_cases (hL : pLoop F A c n) (hc10 : c ≤ 10) (hC : pCode F A c n len cp) (hlb : lb < c) (h : rPh A n len cp p lb m) :
    (A 17 p = nI 0 ∧ ∃ k, k < m ∧ rPh A n len cp (p + 1) lb k) ∨
    (∃ a, a < 10 ∧ A 17 p = nI 1 ∧ A 18 p = nI a ∧ lb ≠ a ∧ ∃ k, k < m ∧ rPh A n len cp (p + 1) lb k) ∨
    (A 17 p = nI 1 ∧ A 18 p = nI lb ∧ p = cp lb) ∨
    (∃ l f t, l < n ∧ A 17 p = nI 2 ∧ A 18 p = nI l ∧ A 14 l = nI f ∧ A 15 l = nI t ∧ f < 10 ∧ t < 10 ∧ (lb < f ∨ t < lb) ∧ ∃ k, k < m ∧ rPh A n len cp (p + 1) lb k) ∨
    (∃ l f t q, l < n ∧ A 17 p = nI 2 ∧ A 18 p = nI l ∧ A 14 l = nI f ∧ A 15 l = nI t ∧ t < 10 ∧ f ≤ lb ∧ lb ≤ t ∧ A 19 l = nI q ∧ ∃ k, k < m ∧ rPh A n len cp (q + 1) lb k) := by
  have hlen := rPh_len hC hlb h
  have hcp := hC.2.2.1 lb hlb
  rcases hC.2.2.2.2.1 p hlen.1 with h0 | ⟨h0, a, ha, h1, h2⟩ | ⟨h0, l, t, hl, h1, h2, h3, h4⟩
  · left
    refine ⟨h0, rPh_next hC hlb h ?_ ?_⟩
    · intro e
      rw [e, hcp.2.1] at h0
      exact absurd h0 (by decide)
    · intro l f t _ e
      rw [h0] at e
      exact absurd e (by decide)
  · by_cases hal : lb = a
    · subst hal
      right; right; left
      exact ⟨h0, h1, h2.symm⟩
    · right; left
      refine ⟨a, by omega, h0, h1, hal, rPh_next hC hlb h ?_ ?_⟩
      · intro e
        rw [e, hcp.2.2] at h1
        exact hal (nI_inj (by omega) (by omega) h1)
      · intro l f t _ e
        rw [h0] at e
        exact absurd e (by decide)
  · obtain ⟨f, b, hf, hb, hfb, hbc⟩ := hL.2.2.1 l hl
    have hbt : b = t := nI_inj (by omega) (by omega) (hb.symm.trans h2)
    subst hbt
    by_cases hin : f ≤ lb ∧ lb ≤ b
    · right; right; right; right
      obtain ⟨q, a, hq, ha, hac, hqa⟩ := hC.2.2.2.2.2.2 l hl
      have hfa : a = f := nI_inj (by omega) (by omega) (ha.symm.trans hf)
      subst hfa
      have h5 := cp_le hC hin.1 hlb
      have h6 := cp_le hC hin.2 hbc
      refine ⟨l, a, b, q, hl, h0, h1, hf, hb, by omega, hin.1, hin.2, hq, cp lb - (q + 1) + 1, ?_, .inl ⟨by omega, rfl⟩⟩
      rcases h with ⟨h7, h8⟩ | ⟨h7, h8, -⟩
      · omega
      · omega
    · right; right; right; left
      refine ⟨l, f, b, hl, h0, h1, hf, hb, by omega, by omega, by omega, rPh_next hC hlb h ?_ ?_⟩
      · intro e
        rw [e, hcp.2.1] at h0
        exact absurd h0 (by decide)
      · intro l2 f2 t2 hl2 e17 e18 e14 e15 a1 a2 a3
        have : l2 = l := nI_inj (by have := hL.2.1; omega) (by have := hL.2.1; omega) (e18.symm.trans h1)
        subst this
        have e5 : t2 = b := nI_inj (by omega) (by omega) (e15.symm.trans hb)
        have e6 : f2 = f := nI_inj (by omega) (by omega) (e14.symm.trans hf)
        subst e5
        subst e6
        exact hin ⟨a1, a2⟩
/-- a block was carried out at word cp lb; the label is now q -/
theorem rPh_enter {q : Nat} (hL : pLoop F A c n) (hc10 : c ≤ 10) (hC : pCode F A c n len cp) (hlb : lb < c) (hq : q < c) (hcov : q ≤ lb → Cov A n q lb) : ∃ k, k ≤ 60 ∧ rPh A n len cp (cp lb + 1) q k := by
  have h1 := hC.2.2.1 lb hlb
  have h2 := hC.2.2.1 q hq
  have h30 := hC.2.1
  by_cases hx : q ≤ lb
  · obtain ⟨l, t, hl, ha, hb, hc, hd⟩ := hcov hx
    obtain ⟨i, t2, hi, e17, e18, e15, ht2, hcp⟩ := hC.2.2.2.2.2.1 l hl
    have : t2 = t := nI_inj (by omega) (by omega) (e15.symm.trans hb)
    subst this
    have h3 := cp_le hC hc ht2
    have h4 := cp_le hC hx hlb
    exact ⟨(len - (cp lb + 1)) + cp q + 1, by omega, .inr ⟨by omega, rfl, i, l, q, t2, by omega, hi, hl, e17, e18, ha, hb, Nat.le_refl _, by omega, hd⟩⟩
  · have h3 := hC.2.2.2.1 lb q (by omega) hq
    exact ⟨cp q - (cp lb + 1) + 1, by omega, .inl ⟨by omega, rfl⟩⟩
end RP
theorem vnext_or (A : jA) (b : Nat) (var : Nat → Int32) : vnext A b var = A 5 b ∨ vnext A b var = A 6 b := by
  unfold vnext
  split
  · exact .inr rfl
  · exact .inl rfl
theorem vnext_congr {A B : jA} (h : ∀ k, k < 7 → B k = A k) (b : Nat) (var : Nat → Int32) : vnext B b var = vnext A b var := by
  unfold vnext
  rw [h 4 (by decide), h 5 (by decide), h 6 (by decide)]
end
section
theorem endOK_congr {A B : jA} (h : ∀ k, k < 7 → B k = A k) (he : endOK A) : endOK B := by
  intro b hb
  rw [h 4 (by decide), h 5 (by decide), h 6 (by decide)]
  exact he b hb
set_option maxHeartbeats 4000000 in
set_option maxRecDepth 100000 in
theorem x_run_exit1 {g : jG} {w : xT} (C : jC g cX0_run 3) (X : xX g w 5) {post : Int32 → jF → jA → Prop} (ret : ∀ (pc : Nat) (L : List (Option Value)) (r : Int32) (F1 : jF) (A1 : jA), decode cX0_run pc = .ok (.ireturn, 1) → narrow .int (.int r) = .int r → post r F1 A1 → J g (xP w F1 A1) pc L [.int r]) {F : jF} {A : jA} {p st : Nat} (hst : st ≤ 20000) (hl : F 21 = -1) (hp : post (nI 1) F A) : J g (xP w F A) 44 [some (.ref (xh w)), some (.int (nI p)), some (.int (nI st))] [] := by
  refine j_iload_n C dX0_run_44 rfl ?_
  refine j_sipush C (v := nI (20000)) dX0_run_45 (by decide) ?_
  refine j_icmp_ge C 94 dX0_run_48 (by decide) (fun c_48 => ?_) (fun c_48 => ?_)
  · skip
    have c_48 : 20000 ≤ st := (nI_leI (a := 20000) (b := st) (by omega) (by omega)).mp c_48
    refine j_aload_n C dX0_run_94 rfl ?_
    refine x_get_label C X dX0_run_95 ?_
    refine j_top (y := -1) (hl) ?_
    refine j_if_ge C 105 dX0_run_98 (by decide) (fun c_98 => ?_) (fun c_98 => ?_)
    · skip
      exact absurd c_98 (by decide)
    · skip
      refine j_iconst C (v := nI (1)) dX0_run_101 (by decide) ?_
      refine j_goto C 106 dX0_run_102 (by decide) ?_
      exact ret _ _ _ _ _ dX0_run_106 rfl hp
  · skip
    have c_48 : ¬ 20000 ≤ st := fun hh => c_48 ((nI_leI (a := 20000) (b := st) (by omega) (by omega)).mpr hh)
    refine j_iload_n C dX0_run_51 rfl ?_
    refine j_aload_n C dX0_run_52 rfl ?_
    refine x_get_length C X dX0_run_53 ?_
    refine j_icmp_ge C 94 dX0_run_56 (by decide) (fun c_56 => ?_) (fun c_56 => ?_)
    · skip
      refine j_aload_n C dX0_run_94 rfl ?_
      refine x_get_label C X dX0_run_95 ?_
      refine j_top (y := -1) (hl) ?_
      refine j_if_ge C 105 dX0_run_98 (by decide) (fun c_98 => ?_) (fun c_98 => ?_)
      · skip
        exact absurd c_98 (by decide)
      · skip
        refine j_iconst C (v := nI (1)) dX0_run_101 (by decide) ?_
        refine j_goto C 106 dX0_run_102 (by decide) ?_
        exact ret _ _ _ _ _ dX0_run_106 rfl hp
    · skip
      refine j_aload_n C dX0_run_59 rfl ?_
      refine x_get_label C X dX0_run_60 ?_
      refine j_top (y := -1) (hl) ?_
      refine j_if_lt C 94 dX0_run_63 (by decide) (fun c_63 => ?_) (fun c_63 => ?_)
      · skip
        refine j_aload_n C dX0_run_94 rfl ?_
        refine x_get_label C X dX0_run_95 ?_
        refine j_top (y := -1) (hl) ?_
        refine j_if_ge C 105 dX0_run_98 (by decide) (fun c_98 => ?_) (fun c_98 => ?_)
        · skip
          exact absurd c_98 (by decide)
        · skip
          refine j_iconst C (v := nI (1)) dX0_run_101 (by decide) ?_
          refine j_goto C 106 dX0_run_102 (by decide) ?_
          exact ret _ _ _ _ _ dX0_run_106 rfl hp
      · skip
        exact absurd neg1_lt c_63
set_option maxHeartbeats 4000000 in
set_option maxRecDepth 100000 in
theorem x_run_exit2 {g : jG} {w : xT} (C : jC g cX0_run 3) (X : xX g w 5) {post : Int32 → jF → jA → Prop} (ret : ∀ (pc : Nat) (L : List (Option Value)) (r : Int32) (F1 : jF) (A1 : jA), decode cX0_run pc = .ok (.ireturn, 1) → narrow .int (.int r) = .int r → post r F1 A1 → J g (xP w F1 A1) pc L [.int r]) {F : jF} {A : jA} {p st lb : Nat} (hst : st ≤ 20000) (hlb : lb < 10) (hl : F 21 = nI lb) (hen : F 22 = nI 300) (hp : post (nI 2) F A) : J g (xP w F A) 44 [some (.ref (xh w)), some (.int (nI p)), some (.int (nI st))] [] := by
  refine j_iload_n C dX0_run_44 rfl ?_
  refine j_sipush C (v := nI (20000)) dX0_run_45 (by decide) ?_
  refine j_icmp_ge C 94 dX0_run_48 (by decide) (fun c_48 => ?_) (fun c_48 => ?_)
  · skip
    have c_48 : 20000 ≤ st := (nI_leI (a := 20000) (b := st) (by omega) (by omega)).mp c_48
    refine j_aload_n C dX0_run_94 rfl ?_
    refine x_get_label C X dX0_run_95 ?_
    refine j_top (y := nI (lb)) (hl) ?_
    refine j_if_ge C 105 dX0_run_98 (by decide) (fun c_98 => ?_) (fun c_98 => ?_)
    · skip
      have c_98 : 0 ≤ lb := (nI_leI (a := 0) (b := lb) (by omega) (by omega)).mp c_98
      refine j_iconst C (v := nI (2)) dX0_run_105 (by decide) ?_
      exact ret _ _ _ _ _ dX0_run_106 rfl hp
    · skip
      have c_98 : ¬ 0 ≤ lb := fun hh => c_98 ((nI_leI (a := 0) (b := lb) (by omega) (by omega)).mpr hh)
      exact absurd (Nat.zero_le _) c_98
  · skip
    have c_48 : ¬ 20000 ≤ st := fun hh => c_48 ((nI_leI (a := 20000) (b := st) (by omega) (by omega)).mpr hh)
    refine j_iload_n C dX0_run_51 rfl ?_
    refine j_aload_n C dX0_run_52 rfl ?_
    refine x_get_length C X dX0_run_53 ?_
    refine j_icmp_ge C 94 dX0_run_56 (by decide) (fun c_56 => ?_) (fun c_56 => ?_)
    · skip
      refine j_aload_n C dX0_run_94 rfl ?_
      refine x_get_label C X dX0_run_95 ?_
      refine j_top (y := nI (lb)) (hl) ?_
      refine j_if_ge C 105 dX0_run_98 (by decide) (fun c_98 => ?_) (fun c_98 => ?_)
      · skip
        have c_98 : 0 ≤ lb := (nI_leI (a := 0) (b := lb) (by omega) (by omega)).mp c_98
        refine j_iconst C (v := nI (2)) dX0_run_105 (by decide) ?_
        exact ret _ _ _ _ _ dX0_run_106 rfl hp
      · skip
        have c_98 : ¬ 0 ≤ lb := fun hh => c_98 ((nI_leI (a := 0) (b := lb) (by omega) (by omega)).mpr hh)
        exact absurd (Nat.zero_le _) c_98
    · skip
      refine j_aload_n C dX0_run_59 rfl ?_
      refine x_get_label C X dX0_run_60 ?_
      refine j_top (y := nI (lb)) (hl) ?_
      refine j_if_lt C 94 dX0_run_63 (by decide) (fun c_63 => ?_) (fun c_63 => ?_)
      · skip
        have c_63 : lb < 0 := (nI_ltI (a := lb) (b := 0) (by omega) (by omega)).mp c_63
        omega
      · skip
        have c_63 : ¬ lb < 0 := fun hh => c_63 ((nI_ltI (a := lb) (b := 0) (by omega) (by omega)).mpr hh)
        refine j_aload_n C dX0_run_66 rfl ?_
        refine x_get_entered C X dX0_run_67 ?_
        refine j_top (y := nI (300)) (hen) ?_
        refine j_sipush C (v := nI (300)) dX0_run_70 (by decide) ?_
        refine j_icmp_ge C 94 dX0_run_73 (by decide) (fun c_73 => ?_) (fun c_73 => ?_)
        · skip
          have c_73 : 300 ≤ 300 := (nI_leI (a := 300) (b := 300) (by omega) (by omega)).mp c_73
          refine j_aload_n C dX0_run_94 rfl ?_
          refine x_get_label C X dX0_run_95 ?_
          refine j_top (y := nI (lb)) (hl) ?_
          refine j_if_ge C 105 dX0_run_98 (by decide) (fun c_98 => ?_) (fun c_98 => ?_)
          · skip
            have c_98 : 0 ≤ lb := (nI_leI (a := 0) (b := lb) (by omega) (by omega)).mp c_98
            refine j_iconst C (v := nI (2)) dX0_run_105 (by decide) ?_
            exact ret _ _ _ _ _ dX0_run_106 rfl hp
          · skip
            have c_98 : ¬ 0 ≤ lb := fun hh => c_98 ((nI_leI (a := 0) (b := lb) (by omega) (by omega)).mpr hh)
            exact absurd (Nat.zero_le _) c_98
        · skip
          have c_73 : ¬ 300 ≤ 300 := fun hh => c_73 ((nI_leI (a := 300) (b := 300) (by omega) (by omega)).mpr hh)
          exact absurd (Nat.le_refl _) c_73
set_option maxHeartbeats 4000000 in
set_option maxRecDepth 100000 in
theorem x_run_loop {g : jG} {w : xT} (C : jC g cX0_run 3) (X : xX g w 5) (F0 : jF) (A0 : jA) (hop : opOK A0) (hsz : szOK A0) (heo : endOK A0) {c n len : Nat} {o cp : Nat → Nat} (hO : pOrd F0 A0 c o) (hL : pLoop F0 A0 c n) (hB : pBack A0 c n o) (hC : pCode F0 A0 c n len cp) (res : Int32 × aV)
    (ret : ∀ (pc : Nat) (L : List (Option Value)) (r : Int32) (F1 : jF) (A1 : jA), decode cX0_run pc = .ok (.ireturn, 1) → narrow .int (.int r) = .int r → (r = res.1 ∧ xAbs F1 A1 res.2 ∧ (∀ k, k ≠ 20 → k ≠ 24 → k ≠ 26 → A1 k = A0 k) ∧ ∀ k, k ≠ 21 → k ≠ 22 → k ≠ 23 → k ≠ 25 → F1 k = F0 k) → J g (xP w F1 A1) pc L [.int r]) :
    ∀ (fuel p st en lb m k : Nat) (F : jF) (A : jA) (V : aV), lb < c → rPh A0 n len cp p lb k → k + 60 * m ≤ fuel → st + k + 60 * m ≤ 20000 → en + m + 1 = 300 → F 21 = nI lb → F 22 = nI en → (∀ k, k ≠ 20 → k ≠ 24 → k ≠ 26 → A k = A0 k) → (∀ k, k ≠ 21 → k ≠ 22 → k ≠ 23 → k ≠ 25 → F k = F0 k) → xAbs F A V → V.2.1 + 3 * (m + 1) < 2 ^ 20 → vrun A0 (m + 1) (o lb) V = res → J g (xP w F A) 44 [some (.ref (xh w)), some (.int (nI p)), some (.int (nI st))] [] := by
  intro fuel
  induction fuel with
  | zero =>
    intro p st en lb m k F A V hlb hph hfu
    have := (rPh_len hC hlb hph).2.1
    omega
  | succ fuel ih =>
    intro p st en lb m k F A V hlb hph hfu hst hem hl he hA hF hV hn hv
    have hlen := rPh_len hC hlb hph
    have h30 := hC.2.1
    have hc10 := hO.2.1
    have eLen : F 16 = nI len := by rw [hF 16 (by decide) (by decide) (by decide) (by decide)]; exact hC.1
    have e17 : A 17 = A0 17 := hA 17 (by decide) (by decide) (by decide)
    have e18 : A 18 = A0 18 := hA 18 (by decide) (by decide) (by decide)
    have e14 : A 14 = A0 14 := hA 14 (by decide) (by decide) (by decide)
    have e15 : A 15 = A0 15 := hA 15 (by decide) (by decide) (by decide)
    have e19 : A 19 = A0 19 := hA 19 (by decide) (by decide) (by decide)
    have hn10 := hL.2.1
    refine j_iload_n C dX0_run_44 rfl ?_
    refine j_sipush C (v := nI (20000)) dX0_run_45 (by decide) ?_
    refine j_icmp_ge C 94 dX0_run_48 (by decide) (fun c_48 => ?_) (fun c_48 => ?_)
    · skip
      have c_48 : 20000 ≤ st := (nI_leI (a := 20000) (b := st) (by omega) (by omega)).mp c_48
      omega
    · skip
      have c_48 : ¬ 20000 ≤ st := fun hh => c_48 ((nI_leI (a := 20000) (b := st) (by omega) (by omega)).mpr hh)
      refine j_iload_n C dX0_run_51 rfl ?_
      refine j_aload_n C dX0_run_52 rfl ?_
      refine x_get_length C X dX0_run_53 ?_
      refine j_top (y := nI (len)) (eLen) ?_
      refine j_icmp_ge C 94 dX0_run_56 (by decide) (fun c_56 => ?_) (fun c_56 => ?_)
      · skip
        have c_56 : len ≤ p := (nI_leI (a := len) (b := p) (by omega) (by omega)).mp c_56
        omega
      · skip
        have c_56 : ¬ len ≤ p := fun hh => c_56 ((nI_leI (a := len) (b := p) (by omega) (by omega)).mpr hh)
        refine j_aload_n C dX0_run_59 rfl ?_
        refine x_get_label C X dX0_run_60 ?_
        refine j_top (y := nI (lb)) (hl) ?_
        refine j_if_lt C 94 dX0_run_63 (by decide) (fun c_63 => ?_) (fun c_63 => ?_)
        · skip
          have c_63 : lb < 0 := (nI_ltI (a := lb) (b := 0) (by omega) (by omega)).mp c_63
          omega
        · skip
          have c_63 : ¬ lb < 0 := fun hh => c_63 ((nI_ltI (a := lb) (b := 0) (by omega) (by omega)).mpr hh)
          refine j_aload_n C dX0_run_66 rfl ?_
          refine x_get_entered C X dX0_run_67 ?_
          refine j_top (y := nI (en)) (he) ?_
          refine j_sipush C (v := nI (300)) dX0_run_70 (by decide) ?_
          refine j_icmp_ge C 94 dX0_run_73 (by decide) (fun c_73 => ?_) (fun c_73 => ?_)
          · skip
            have c_73 : 300 ≤ en := (nI_leI (a := 300) (b := en) (by omega) (by omega)).mp c_73
            omega
          · skip
            have c_73 : ¬ 300 ≤ en := fun hh => c_73 ((nI_leI (a := 300) (b := en) (by omega) (by omega)).mpr hh)
            rcases rPh_cases hL hc10 hC hlb hph with ⟨w17, k2, hk, hk2⟩ | ⟨a, ha, w17, w18, hne, k2, hk, hk2⟩ | ⟨w17, w18, wp⟩ | ⟨l, f, t, hln, w17, w18, w14, w15, hf, ht, ho, k2, hk, hk2⟩ | ⟨l, f, t, q, hln, w17, w18, w14, w15, ht, hf, hx, w19, k2, hk, hk2⟩
            · skip
              refine j_aload_n C dX0_run_76 rfl ?_
              refine j_iload_n C dX0_run_77 rfl ?_
              refine j_aload_n C dX0_run_78 rfl ?_
              refine x_get_with C X dX0_run_79 ?_
              refine j_iload_n C dX0_run_82 rfl ?_
              refine x_ald_with (v := A0 18 p) (p) C X dX0_run_83 rfl (by omega) (by rw [e18]) ?_
              refine x_callip C X (x_perform_loop F A p (by omega) (A0 18 p) (by rw [e17]; exact w17)) (lw_V q181 q183 qs9 q18 q184) (n := 2) (by decide +kernel) rfl (by decide) (by decide) dX0_run_84 rfl (Nat.le_of_ble_eq_true rfl) rfl (fun r_1 h_2 => ?_)
              refine j_top (y := nI (p + 1)) (h_2) ?_
              refine j_istore_n C (L' := [some (.ref (xh w)), some (.int (nI (p + 1))), some (.int (nI st))]) dX0_run_87 (Nat.le_of_ble_eq_true rfl) rfl rfl ?_
              refine j_iinc C (v := nI (st + 1)) (L' := [some (.ref (xh w)), some (.int (nI (p + 1))), some (.int (nI (st + 1)))]) dX0_run_88 rfl (nI_1 _) (Nat.le_of_ble_eq_true rfl) rfl rfl ?_
              refine j_goto C 44 dX0_run_91 (by decide) ?_
              exact ih (p + 1) (st + 1) en lb m k2 F A V hlb hk2 (by omega) (by omega) hem hl he hA hF hV hn hv
            · skip
              refine j_aload_n C dX0_run_76 rfl ?_
              refine j_iload_n C dX0_run_77 rfl ?_
              refine j_aload_n C dX0_run_78 rfl ?_
              refine x_get_with C X dX0_run_79 ?_
              refine j_iload_n C dX0_run_82 rfl ?_
              refine x_ald_with (v := nI (a)) (p) C X dX0_run_83 rfl (by omega) (by rw [e18]; exact w18) ?_
              refine x_callip C X (x_perform_pass F A p (by omega) a lb (by rw [e17]; exact w17) hl hne (by omega) (by omega)) (lw_V q181 q183 qs9 q18 q184) (n := 2) (by decide +kernel) rfl (by decide) (by decide) dX0_run_84 rfl (Nat.le_of_ble_eq_true rfl) rfl (fun r_3 h_4 => ?_)
              refine j_top (y := nI (p + 1)) (h_4) ?_
              refine j_istore_n C (L' := [some (.ref (xh w)), some (.int (nI (p + 1))), some (.int (nI st))]) dX0_run_87 (Nat.le_of_ble_eq_true rfl) rfl rfl ?_
              refine j_iinc C (v := nI (st + 1)) (L' := [some (.ref (xh w)), some (.int (nI (p + 1))), some (.int (nI (st + 1)))]) dX0_run_88 rfl (nI_1 _) (Nat.le_of_ble_eq_true rfl) rfl rfl ?_
              refine j_goto C 44 dX0_run_91 (by decide) ?_
              exact ih (p + 1) (st + 1) en lb m k2 F A V hlb hk2 (by omega) (by omega) hem hl he hA hF hV hn hv
            · skip
              obtain ⟨s, hs, es⟩ := hsz (o lb) (hO.2.2.2.2.1 lb hlb).1
              have hOl := hO.2.2.2.2.1 lb hlb
              have hA7 : ∀ k, k < 7 → A k = A0 k := fun k hk => hA k (by omega) (by omega) (by omega)
              refine j_aload_n C dX0_run_76 rfl ?_
              refine j_iload_n C dX0_run_77 rfl ?_
              refine j_aload_n C dX0_run_78 rfl ?_
              refine x_get_with C X dX0_run_79 ?_
              refine j_iload_n C dX0_run_82 rfl ?_
              refine x_ald_with (v := nI (lb)) (p) C X dX0_run_83 rfl (by omega) (by rw [e18]; exact w18) ?_
              refine x_calli C X (x_perform_enter F A p (by omega) lb (o lb) (by omega) (by rw [e17]; exact w17) hl (by rw [hA 9 (by decide) (by decide) (by decide)]; exact hOl.2.1) hOl.1 s hs (by rw [hA 0 (by decide) (by decide) (by decide)]; exact es) (opOK_congr (fun k hk => hA7 k (by omega)) hop) (endOK_congr hA7 heo) en he V hV (by omega)) (lw_V q181 q183 qs9 q18 q184) (n := 2) (by decide +kernel) rfl (by decide) (by decide) dX0_run_84 rfl (Nat.le_of_ble_eq_true rfl) rfl (fun r_5 F1 A1 hE => ?_)
              refine j_top (y := nI (p + 1)) (hE.1) ?_
              refine j_istore_n C (L' := [some (.ref (xh w)), some (.int (nI (p + 1))), some (.int (nI st))]) dX0_run_87 (Nat.le_of_ble_eq_true rfl) rfl rfl ?_
              refine j_iinc C (v := nI (st + 1)) (L' := [some (.ref (xh w)), some (.int (nI (p + 1))), some (.int (nI (st + 1)))]) dX0_run_88 rfl (nI_1 _) (Nat.le_of_ble_eq_true rfl) rfl rfl ?_
              refine j_goto C 44 dX0_run_91 (by decide) ?_
              obtain ⟨-, hx, hen1, hlab, hfA, hfF⟩ := hE
              have hfA0 : ∀ k, k ≠ 20 → k ≠ 24 → k ≠ 26 → A1 k = A0 k := fun k h1 h2 h3 => (hfA k h1 h2 h3).trans (hA k h1 h2 h3)
              have hfF0 : ∀ k, k ≠ 21 → k ≠ 22 → k ≠ 23 → k ≠ 25 → F1 k = F0 k := fun k h1 h2 h3 h4 => (hfF k h1 h2 h3 h4).trans (hF k h1 h2 h3 h4)
              rw [vent_congr (fun k hk => hA7 k (by omega))] at hx hlab
              rw [vnext_congr hA7] at hlab
              rcases hlab with ⟨hvn, hl1⟩ | ⟨t, ht, hvn, hl1⟩
              · rw [vrun_stop hvn] at hv
                subst hv
                exact x_run_exit1 C X ret (by omega) hl1 ⟨rfl, hx, hfA0, hfF0⟩
              · rw [vrun_go ht hvn] at hv
                have hor : A0 5 (o lb) = nI t ∨ A0 6 (o lb) = nI t := by
                  rcases vnext_or A0 (o lb) (vent A0 (o lb) V).1 with h | h
                  · exact .inl (h.symm.trans hvn)
                  · exact .inr (h.symm.trans hvn)
                obtain ⟨q, hq, hoq⟩ := hO.2.2.2.2.2.1 lb t hlb ht hor
                have hl2 : F1 21 = nI q := by
                  rw [hl1, hA 10 (by decide) (by decide) (by decide), ← hoq]
                  exact (hO.2.2.2.2.1 q hq).2.2
                obtain ⟨k2, hk60, hk2⟩ := rPh_enter hL hc10 hC hlb hq (fun hle => hB lb t q hlb ht hor hq hoq hle)
                have hvn3 := vent_n (V := V) hsz hOl.1
                cases m with
                | zero =>
                  subst hv
                  exact x_run_exit2 C X ret (by omega) (by omega) hl2 (by rw [hen1, show en + 1 = 300 by omega]) ⟨rfl, hx, hfA0, hfF0⟩
                | succ m =>
                  subst wp
                  subst hoq
                  exact ih (cp lb + 1) (st + 1) (en + 1) q m k2 F1 A1 _ hq hk2 (by omega) (by omega) (by omega) hl2 hen1 hfA0 hfF0 hx (by omega) hv
            · skip
              refine j_aload_n C dX0_run_76 rfl ?_
              refine j_iload_n C dX0_run_77 rfl ?_
              refine j_aload_n C dX0_run_78 rfl ?_
              refine x_get_with C X dX0_run_79 ?_
              refine j_iload_n C dX0_run_82 rfl ?_
              refine x_ald_with (v := nI (l)) (p) C X dX0_run_83 rfl (by omega) (by rw [e18]; exact w18) ?_
              refine x_callip C X (x_perform_out F A p (by omega) l lb f t (by omega) (by rw [e17]; exact w17) hl (by omega) (by rw [e14]; exact w14) (by omega) (by rw [e15]; exact w15) (by omega) ho) (lw_V q181 q183 qs9 q18 q184) (n := 2) (by decide +kernel) rfl (by decide) (by decide) dX0_run_84 rfl (Nat.le_of_ble_eq_true rfl) rfl (fun r_6 h_7 => ?_)
              refine j_top (y := nI (p + 1)) (h_7) ?_
              refine j_istore_n C (L' := [some (.ref (xh w)), some (.int (nI (p + 1))), some (.int (nI st))]) dX0_run_87 (Nat.le_of_ble_eq_true rfl) rfl rfl ?_
              refine j_iinc C (v := nI (st + 1)) (L' := [some (.ref (xh w)), some (.int (nI (p + 1))), some (.int (nI (st + 1)))]) dX0_run_88 rfl (nI_1 _) (Nat.le_of_ble_eq_true rfl) rfl rfl ?_
              refine j_goto C 44 dX0_run_91 (by decide) ?_
              exact ih (p + 1) (st + 1) en lb m k2 F A V hlb hk2 (by omega) (by omega) hem hl he hA hF hV hn hv
            · skip
              refine j_aload_n C dX0_run_76 rfl ?_
              refine j_iload_n C dX0_run_77 rfl ?_
              refine j_aload_n C dX0_run_78 rfl ?_
              refine x_get_with C X dX0_run_79 ?_
              refine j_iload_n C dX0_run_82 rfl ?_
              refine x_ald_with (v := nI (l)) (p) C X dX0_run_83 rfl (by omega) (by rw [e18]; exact w18) ?_
              refine x_callip C X (x_perform_back F A p (by omega) l lb f t q (by omega) (by rw [e17]; exact w17) hl (by omega) (by rw [e14]; exact w14) hf (by rw [e15]; exact w15) (by omega) hx (by rw [e19]; exact w19)) (lw_V q181 q183 qs9 q18 q184) (n := 2) (by decide +kernel) rfl (by decide) (by decide) dX0_run_84 rfl (Nat.le_of_ble_eq_true rfl) rfl (fun r_8 h_9 => ?_)
              refine j_top (y := nI (q + 1)) (h_9) ?_
              refine j_istore_n C (L' := [some (.ref (xh w)), some (.int (nI (q + 1))), some (.int (nI st))]) dX0_run_87 (Nat.le_of_ble_eq_true rfl) rfl rfl ?_
              refine j_iinc C (v := nI (st + 1)) (L' := [some (.ref (xh w)), some (.int (nI (q + 1))), some (.int (nI (st + 1)))]) dX0_run_88 rfl (nI_1 _) (Nat.le_of_ble_eq_true rfl) rfl rfl ?_
              refine j_goto C 44 dX0_run_91 (by decide) ?_
              exact ih (q + 1) (st + 1) en lb m k2 F A V hlb hk2 (by omega) (by omega) hem hl he hA hF hV hn hv
set_option maxHeartbeats 4000000 in
set_option maxRecDepth 100000 in
theorem x_run_z {g : jG} {w : xT} {F : jF} (C : jC g cX0_run 3) (X : xX g w 5) (A0 : jA) (hend : ∀ A1 : jA, (∀ k, k ≠ 24 → A1 k = A0 k) → (∀ j, j < 10 → A1 24 j = nI 0) → J g (xP w F A1) 25 [some (.ref (xh w)), some (.int (nI 10)), none] []) :
    ∀ (n i : Nat) (A : jA), i + n = 10 → (∀ k, k ≠ 24 → A k = A0 k) → (∀ j, j < i → A 24 j = nI 0) → J g (xP w F A) 6 [some (.ref (xh w)), some (.int (nI i)), none] [] := by
  intro n
  induction n with
  | zero =>
    intro i A hi h1 h2
    obtain rfl : i = 10 := by omega
    refine j_iload_n C dX0_run_6 rfl ?_
    refine j_bipush C (v := nI (10)) dX0_run_7 (by decide) ?_
    refine j_icmp_ge C 25 dX0_run_9 (by decide) (fun c_9 => ?_) (fun c_9 => ?_)
    · skip
      have c_9 : 10 ≤ 10 := (nI_leI (a := 10) (b := 10) (by omega) (by omega)).mp c_9
      exact hend A h1 h2
    · skip
      have c_9 : ¬ 10 ≤ 10 := fun hh => c_9 ((nI_leI (a := 10) (b := 10) (by omega) (by omega)).mpr hh)
      omega
  | succ n ih =>
    intro i A hi h1 h2
    refine j_iload_n C dX0_run_6 rfl ?_
    refine j_bipush C (v := nI (10)) dX0_run_7 (by decide) ?_
    refine j_icmp_ge C 25 dX0_run_9 (by decide) (fun c_9 => ?_) (fun c_9 => ?_)
    · skip
      have c_9 : 10 ≤ i := (nI_leI (a := 10) (b := i) (by omega) (by omega)).mp c_9
      omega
    · skip
      have c_9 : ¬ 10 ≤ i := fun hh => c_9 ((nI_leI (a := 10) (b := i) (by omega) (by omega)).mpr hh)
      refine j_aload_n C dX0_run_12 rfl ?_
      refine x_get_seen C X dX0_run_13 ?_
      refine j_iload_n C dX0_run_16 rfl ?_
      refine j_iconst C (v := nI (0)) dX0_run_17 (by decide) ?_
      obtain ⟨A_1, eA_1⟩ : ∃ Z, va_up A 24 (upd (A 24) (i) (nI (0))) = Z := ⟨_, rfl⟩
      refine x_ast_seen (i) C X dX0_run_18 rfl (by omega) eA_1 ?_
      refine j_iinc C (v := nI (i + 1)) (L' := [some (.ref (xh w)), some (.int (nI (i + 1))), none]) dX0_run_19 rfl (nI_1 _) (Nat.le_of_ble_eq_true rfl) rfl rfl ?_
      refine j_goto C 6 dX0_run_22 (by decide) ?_
      refine ih (i + 1) A_1 (by omega) (fun k hk => ?_) (fun j a => ?_)
      · rw [← eA_1, up_n hk]; exact h1 k hk
      · rw [← eA_1, up_s]
        by_cases hj : j = i
        · subst hj
          rw [pk_us]
        · rw [pk_un hj]
          exact h2 j (by omega)
end
section
/-! the walk that orders the blocks, in plain Lean -/
theorem sl_31 : ∀ n, n < 32 → ((nI n &&& 31).toBitVec.smod 32).toNat = n := by decide +kernel
theorem nI_or (a b : Nat) : nI a ||| nI b = nI (a ||| b) := by
  apply Int32.toBitVec_inj.1
  show BitVec.ofNat 32 a ||| BitVec.ofNat 32 b = BitVec.ofNat 32 (a ||| b)
  exact BitVec.ofNat_or.symm
theorem nI_shr {k t : Nat} (hk : k < 2 ^ 31) (ht : t < 32) : nI k >>> (nI t &&& 31) = nI (k / 2 ^ t) := pk_shrN hk _ t (sl_31 t ht)
theorem nI_shl {t : Nat} (ht : t < 31) : nI 1 <<< (nI t &&& 31) = nI (2 ^ t) := by
  have h := pk_shlN (n := 1) (nI t &&& 31) t (sl_31 t (by omega)) (by
    rw [Nat.one_mul]
    exact Nat.pow_lt_pow_right (by decide) (by omega))
  rw [h, Nat.one_mul]
theorem nI_bit {k : Nat} (hk : k < 2 ^ 31) : nI k &&& nI 1 = nI (k % 2) := pk_andN (by omega) 1 (by decide)
theorem bit_1 {k t : Nat} : k.testBit t = true ↔ k / 2 ^ t % 2 = 1 := by
  rw [Nat.testBit_eq_decide_div_mod_eq]
  simp
theorem bit_or {k t b : Nat} : (k ||| 2 ^ t).testBit b = (k.testBit b || decide (t = b)) := by
  rw [Nat.testBit_or, Nat.testBit_two_pow]
theorem or_lt {k t : Nat} (hk : k < 1024) (ht : t < 10) : k ||| 2 ^ t < 1024 := by
  have h : 2 ^ t < 2 ^ 10 := Nat.pow_lt_pow_right (by decide) ht
  exact Nat.or_lt_two_pow (n := 10) hk h
theorem cnt_le (M : Nat → Bool) : ∀ n, cnt M n ≤ n
  | 0 => Nat.le_refl _
  | n + 1 => by
    have := cnt_le M n
    unfold cnt
    split <;> omega
theorem cnt_congr {M N : Nat → Bool} : ∀ n, (∀ b, b < n → M b = N b) → cnt M n = cnt N n
  | 0, _ => rfl
  | n + 1, h => by
    unfold cnt
    rw [cnt_congr n (fun b hb => h b (by omega)), h n (by omega)]
theorem cnt_add {M N : Nat → Bool} {t : Nat} (hM : M t = false) (hN : N t = true) : ∀ n, (∀ b, b < n → b ≠ t → N b = M b) → t < n → cnt N n = cnt M n + 1
  | 0, _, h => absurd h (Nat.not_lt_zero _)
  | n + 1, h, ht => by
    unfold cnt
    by_cases e : t = n
    · subst e
      rw [cnt_congr t (fun b hb => h b (by omega) (by omega)), hM, hN]
      simp
    · rw [cnt_add hM hN n (fun b hb he => h b (by omega) he) (by omega), h n (by omega) (fun e2 => e e2.symm)]
      omega
def ssum (f : Nat → Nat) : Nat → Nat
  | 0 => 0
  | n + 1 => ssum f n + f n
theorem ssum_congr {f g : Nat → Nat} : ∀ n, (∀ b, b < n → f b = g b) → ssum f n = ssum g n
  | 0, _ => rfl
  | n + 1, h => by
    unfold ssum
    rw [ssum_congr n (fun b hb => h b (by omega)), h n (by omega)]
theorem ssum_le {f : Nat → Nat} {k : Nat} : ∀ n, (∀ b, b < n → f b ≤ k) → ssum f n ≤ k * n
  | 0, _ => Nat.le_refl _
  | n + 1, h => by
    have h1 := ssum_le n (fun b hb => h b (by omega))
    have h2 := h n (by omega)
    unfold ssum
    rw [Nat.mul_succ]
    omega
def inS (left d i : Nat) : Prop := i < d ∨ (left ≤ i ∧ i < 10)
def clos (A : jA) (T : Nat → Prop) : Prop := ∀ a x, a < 10 → x < 10 → T a → (A 5 a = nI x ∨ A 6 a = nI x) → T x
def dAbs (A0 : jA) (left d step mk : Nat) (z sd : Nat → Nat) : Prop :=
  left ≤ 10 ∧ mk < 1024 ∧ (∀ i, i < d → sd i ≤ 2) ∧ (∀ i, inS left d i → z i < 10 ∧ mk.testBit (z i) = true) ∧ (∀ i j, inS left d i → inS left d j → z i = z j → i = j) ∧ (∀ b, b < 10 → mk.testBit b = true → ∃ i, inS left d i ∧ z i = b) ∧ cnt mk.testBit 10 = d + (10 - left) ∧
  (∀ i x, left ≤ i → i < 10 → x < 10 → (A0 5 (z i) = nI x ∨ A0 6 (z i) = nI x) → mk.testBit x = true) ∧ (∀ i x, i < d → x < 10 → (1 ≤ sd i → A0 5 (z i) = nI x → mk.testBit x = true) ∧ (2 ≤ sd i → A0 6 (z i) = nI x → mk.testBit x = true)) ∧
  (∀ T : Nat → Prop, T 0 → clos A0 T → ∀ b, b < 10 → mk.testBit b = true → T b) ∧ (0 < d → z 0 = 0) ∧ (d = 0 → left < 10 ∧ z left = 0) ∧ step ≤ ssum sd d + 3 * (10 - left)
def dArr (A : jA) (left d : Nat) (z sd : Nat → Nat) : Prop := (∀ i, i < d → A 11 i = nI (z i) ∧ A 12 i = nI (sd i)) ∧ ∀ i, left ≤ i → i < 10 → A 9 i = nI (z i)
theorem dAbs_le {A0 : jA} {left d step mk : Nat} {z sd : Nat → Nat} (h : dAbs A0 left d step mk z sd) : d ≤ left ∧ step < 40 := by
  obtain ⟨h1, -, h3, -, -, -, h7, -, -, -, -, -, h13⟩ := h
  have h8 := cnt_le mk.testBit 10
  have h9 := ssum_le (k := 2) d h3
  omega
theorem dAbs_0 (A0 : jA) : dAbs A0 10 1 0 1 (fun _ => 0) (fun _ => 0) := by
  refine ⟨by decide, by decide, fun i h => Nat.zero_le _, fun i h => ⟨show 0 < 10 by decide, show Nat.testBit 1 0 = true by decide⟩, fun i j h1 h2 _ => ?_, fun b hb h => ?_, by decide, fun i x h1 h2 => by omega, fun i x h1 h2 => ⟨fun h => absurd h (show ¬ 1 ≤ 0 by decide), fun h => absurd h (show ¬ 2 ≤ 0 by decide)⟩, fun T h0 _ b hb h => ?_, fun _ => rfl, fun h => by omega, by decide⟩
  · unfold inS at h1 h2
    omega
  · refine ⟨0, .inl (by decide), ?_⟩
    rw [show (1 : Nat) = 2 ^ 0 from rfl, Nat.testBit_two_pow] at h
    exact of_decide_eq_true h
  · rw [show (1 : Nat) = 2 ^ 0 from rfl, Nat.testBit_two_pow] at h
    have := of_decide_eq_true h
    subst this
    exact h0
section DF
variable {A0 : jA} {left e step mk : Nat} {z sd : Nat → Nat}
theorem dAbs_pop (h : dAbs A0 left (e + 1) step mk z sd) (hs : sd e = 2) : dAbs A0 (left - 1) e (step + 1) mk (va_up z (left - 1) (z e)) sd := by
  have hle := dAbs_le h
  obtain ⟨h1, h2, h3, h4, h5, h6, h7, h8, h9, h10, h11, h12, h13⟩ := h
  -- an old place for each place
  have hz : ∀ i, inS (left - 1) e i → ∃ j, inS left (e + 1) j ∧ va_up z (left - 1) (z e) i = z j ∧ (j = if i = left - 1 then e else i) := by
    intro i hi
    by_cases hx : i = left - 1
    · subst hx
      exact ⟨e, .inl (by omega), up_s, by rw [if_pos rfl]⟩
    · refine ⟨i, ?_, up_n hx, by rw [if_neg hx]⟩
      rcases hi with hi | hi
      · exact .inl (by omega)
      · exact .inr (by omega)
  refine ⟨by omega, h2, fun i hi => h3 i (by omega), fun i hi => ?_, fun i j hi hj hij => ?_, fun b hb hm => ?_, by omega, fun i x hi hi2 hx hor => ?_, fun i x hi hx => ?_, h10, fun he => ?_, fun he => ?_, ?_⟩
  · obtain ⟨j, hj, ej, -⟩ := hz i hi
    rw [ej]
    exact h4 j hj
  · obtain ⟨a, ha, ea, xa⟩ := hz i hi
    obtain ⟨b, hb, eb, xb⟩ := hz j hj
    have hab := h5 a b ha hb (by rw [← ea, ← eb, hij])
    rw [xa, xb] at hab
    unfold inS at hi hj
    split at hab <;> split at hab <;> omega
  · obtain ⟨i, hi, ei⟩ := h6 b hb hm
    by_cases hx : i = e
    · subst hx
      exact ⟨left - 1, .inr (by omega), by rw [up_s]; exact ei⟩
    · refine ⟨i, ?_, ?_⟩
      · rcases hi with hi | hi
        · exact .inl (by omega)
        · exact .inr (by omega)
      · rw [up_n, ei]
        rcases hi with hi | hi
        · omega
        · omega
  · by_cases hxx : i = left - 1
    · subst hxx
      rw [up_s] at hor
      rcases hor with ho | ho
      · exact (h9 e x (by omega) hx).1 (by omega) ho
      · exact (h9 e x (by omega) hx).2 (by omega) ho
    · rw [up_n hxx] at hor
      exact h8 i x (by omega) hi2 hx hor
  · rw [up_n (by omega)]
    exact h9 i x (by omega) hx
  · rw [up_n (by omega)]
    exact h11 (by omega)
  · subst he
    rw [up_s]
    exact ⟨by omega, h11 (by omega)⟩
  · unfold ssum at h13
    omega
theorem dAbs_stay (h : dAbs A0 left (e + 1) step mk z sd) (hs : sd e < 2) (hn : ∀ x, x < 10 → (sd e = 0 → A0 5 (z e) = nI x → mk.testBit x = true) ∧ (sd e = 1 → A0 6 (z e) = nI x → mk.testBit x = true)) : dAbs A0 left (e + 1) (step + 1) mk z (va_up sd e (sd e + 1)) := by
  obtain ⟨h1, h2, h3, h4, h5, h6, h7, h8, h9, h10, h11, h12, h13⟩ := h
  refine ⟨h1, h2, fun i hi => ?_, h4, h5, h6, h7, h8, fun i x hi hx => ?_, h10, h11, h12, ?_⟩
  · by_cases hx : i = e
    · subst hx
      rw [up_s]
      omega
    · rw [up_n hx]
      exact h3 i hi
  · by_cases hxx : i = e
    · subst hxx
      rw [up_s]
      refine ⟨fun _ ho => ?_, fun hk ho => ?_⟩
      · rcases Nat.eq_zero_or_pos (sd i) with h0 | h0
        · exact (hn x hx).1 h0 ho
        · exact (h9 i x (by omega) hx).1 (by omega) ho
      · exact (hn x hx).2 (by omega) ho
    · rw [up_n hxx]
      exact h9 i x hi hx
  · unfold ssum at h13 ⊢
    rw [up_s, ssum_congr (f := va_up sd e (sd e + 1)) (g := sd) e (fun b hb => up_n (by omega))]
    omega
theorem dAbs_push {t : Nat} (h : dAbs A0 left (e + 1) step mk z sd) (hs : sd e < 2) (hze : z e < 10) (ht : t < 10) (hm : mk.testBit t = false) (ho : (sd e = 0 ∧ A0 5 (z e) = nI t) ∨ (sd e = 1 ∧ A0 6 (z e) = nI t)) :
    dAbs A0 left (e + 2) (step + 1) (mk ||| 2 ^ t) (va_up z (e + 1) t) (va_up (va_up sd e (sd e + 1)) (e + 1) 0) := by
  have hle := dAbs_le h
  obtain ⟨h1, h2, h3, h4, h5, h6, h7, h8, h9, h10, h11, h12, h13⟩ := h
  have hb1 : ∀ b, mk.testBit b = true → (mk ||| 2 ^ t).testBit b = true := fun b hb => by rw [bit_or, hb]; rfl
  have hbt : (mk ||| 2 ^ t).testBit t = true := by rw [bit_or]; simp
  have hcnt : cnt (mk ||| 2 ^ t).testBit 10 = cnt mk.testBit 10 + 1 := by
    refine cnt_add hm hbt 10 (fun b hb hne => ?_) ht
    rw [bit_or, decide_eq_false (fun e => hne e.symm), Bool.or_false]
  have hc10 := cnt_le (mk ||| 2 ^ t).testBit 10
  have hlt : e + 2 ≤ left := by omega
  have hin : ∀ i, inS left (e + 2) i → i ≠ e + 1 → inS left (e + 1) i := by
    intro i hi hne
    rcases hi with hi | hi
    · exact .inl (by omega)
    · exact .inr hi
  have hnt : ∀ i, inS left (e + 1) i → z i ≠ t := by
    intro i hi hz
    have := (h4 i hi).2
    rw [hz, hm] at this
    exact absurd this (by decide)
  refine ⟨h1, or_lt h2 ht, fun i hi => ?_, fun i hi => ?_, fun i j hi hj hij => ?_, fun b hb hmb => ?_, by omega, fun i x hi hi2 hx hor => ?_, fun i x hi hx => ?_, fun T hT0 hT b hb hmb => ?_, fun _ => ?_, fun he => by omega, ?_⟩
  · by_cases hx : i = e + 1
    · rw [hx, up_s]; omega
    · rw [up_n hx]
      by_cases hy : i = e
      · rw [hy, up_s]; omega
      · rw [up_n hy]
        exact h3 i (by omega)
  · by_cases hx : i = e + 1
    · rw [hx, up_s]
      exact ⟨ht, hbt⟩
    · rw [up_n hx]
      exact ⟨(h4 i (hin i hi hx)).1, hb1 _ (h4 i (hin i hi hx)).2⟩
  · by_cases hx : i = e + 1
    · by_cases hy : j = e + 1
      · omega
      · rw [hx, up_s, up_n hy] at hij
        exact absurd hij.symm (hnt j (hin j hj hy))
    · by_cases hy : j = e + 1
      · rw [hy, up_s, up_n hx] at hij
        exact absurd hij (hnt i (hin i hi hx))
      · rw [up_n hx, up_n hy] at hij
        exact h5 i j (hin i hi hx) (hin j hj hy) hij
  · rw [bit_or] at hmb
    by_cases hbt2 : t = b
    · exact ⟨e + 1, .inl (by omega), by rw [up_s]; exact hbt2⟩
    · rw [decide_eq_false hbt2, Bool.or_false] at hmb
      obtain ⟨i, hi, ei⟩ := h6 b hb hmb
      have hne : i ≠ e + 1 := by
        rcases hi with hi | hi
        · omega
        · omega
      refine ⟨i, ?_, by rw [up_n hne]; exact ei⟩
      rcases hi with hi | hi
      · exact .inl (by omega)
      · exact .inr hi
  · rw [up_n (by omega)] at hor
    exact hb1 x (h8 i x hi hi2 hx hor)
  · by_cases hxx : i = e + 1
    · rw [hxx, up_s, up_s]
      exact ⟨fun h => by omega, fun h => by omega⟩
    · rw [up_n hxx, up_n hxx]
      by_cases hy : i = e
      · rw [hy, up_s]
        refine ⟨fun _ hq => ?_, fun hk hq => ?_⟩
        · rcases ho with ⟨h0, h0t⟩ | ⟨h0, h0t⟩
          · have : x = t := nI_inj (by omega) (by omega) (hq.symm.trans h0t)
            rw [this]
            exact hbt
          · exact hb1 x ((h9 e x (by omega) hx).1 (by omega) hq)
        · rcases ho with ⟨h0, h0t⟩ | ⟨h0, h0t⟩
          · omega
          · have : x = t := nI_inj (by omega) (by omega) (hq.symm.trans h0t)
            rw [this]
            exact hbt
      · rw [up_n hy]
        have := h9 i x (by omega) hx
        exact ⟨fun a b => hb1 x (this.1 a b), fun a b => hb1 x (this.2 a b)⟩
  · rw [bit_or] at hmb
    by_cases hbt2 : t = b
    · subst hbt2
      have hTe : T (z e) := h10 T hT0 hT (z e) hze (h4 e (.inl (by omega))).2
      rcases ho with ⟨-, ho⟩ | ⟨-, ho⟩
      · exact hT (z e) t hze ht hTe (.inl ho)
      · exact hT (z e) t hze ht hTe (.inr ho)
    · rw [decide_eq_false hbt2, Bool.or_false] at hmb
      exact h10 T hT0 hT b hb hmb
  · rw [up_n (by omega)]
    exact h11 (by omega)
  · unfold ssum
    unfold ssum
    unfold ssum at h13
    rw [up_s, up_n (show e ≠ e + 1 by omega), up_s, ssum_congr (f := va_up (va_up sd e (sd e + 1)) (e + 1) 0) (g := sd) e (fun b hb => by rw [up_n (by omega), up_n (by omega)])]
    omega
/-- the walk is over, the blocks moved to the front: the order stands -/
theorem dAbs_end {F : jF} {A : jA} (h : dAbs A0 left 0 step mk z sd) (h5 : A 5 = A0 5) (h6 : A 6 = A0 6) (h8 : F 8 = nI (10 - left)) (h9 : ∀ p, p < 10 - left → A 9 p = nI (z (left + p))) (h10 : ∀ p, p < 10 - left → A 10 (z (left + p)) = nI p) : pOrd F A (10 - left) (fun p => z (left + p)) := by
  obtain ⟨q1, q2, q3, q4, q5, q6, q7, q8, q9, q10, q11, q12, q13⟩ := h
  obtain ⟨hl, hz⟩ := q12 rfl
  refine ⟨by omega, by omega, h8, hz, fun p hp => ⟨(q4 (left + p) (.inr (by omega))).1, h9 p hp, h10 p hp⟩, fun p x hp hx hor => ?_, fun T hT0 hT p hp => ?_, mk.testBit, by omega, fun b hb => ⟨fun hm => ?_, fun ⟨p, hp, e⟩ => ?_⟩⟩
  · rw [h5, h6] at hor
    obtain ⟨i, hi, ei⟩ := q6 x hx (q8 (left + p) x (by omega) (by omega) hx hor)
    rcases hi with hi | hi
    · omega
    · exact ⟨i - left, by omega, by show z (left + (i - left)) = x; rw [show left + (i - left) = i by omega]; exact ei⟩
  · rw [h5, h6] at hT
    exact q10 T hT0 hT _ (q4 (left + p) (.inr (by omega))).1 (q4 (left + p) (.inr (by omega))).2
  · obtain ⟨i, hi, ei⟩ := q6 b hb hm
    rcases hi with hi | hi
    · omega
    · exact ⟨i - left, by omega, by show z (left + (i - left)) = b; rw [show left + (i - left) = i by omega]; exact ei⟩
  · have e : z (left + p) = b := e
    rw [← e]
    exact (q4 (left + p) (.inr (by omega))).2
end DF
end
section
set_option maxHeartbeats 4000000 in
set_option maxRecDepth 100000 in
theorem x_ob_z {g : jG} {w : xT} {F : jF} (C : jC g cX0_orderBlocks 8) (X : xX g w 0) (A0 : jA) (hend : ∀ A1 : jA, (∀ k, k ≠ 10 → A1 k = A0 k) → J g (xP w F A1) 21 [some (.ref (xh w)), some (.int (nI 10)), none, none, none, none, none, none] []) :
    ∀ (n i : Nat) (A : jA), i + n = 10 → (∀ k, k ≠ 10 → A k = A0 k) → J g (xP w F A) 2 [some (.ref (xh w)), some (.int (nI i)), none, none, none, none, none, none] [] := by
  intro n
  induction n with
  | zero =>
    intro i A hi h1
    obtain rfl : i = 10 := by omega
    refine j_iload_n C dX0_orderBlocks_2 rfl ?_
    refine j_bipush C (v := nI (10)) dX0_orderBlocks_3 (by decide) ?_
    refine j_icmp_ge C 21 dX0_orderBlocks_5 (by decide) (fun c_5 => ?_) (fun c_5 => ?_)
    · skip
      have c_5 : 10 ≤ 10 := (nI_leI (a := 10) (b := 10) (by omega) (by omega)).mp c_5
      exact hend A h1
    · skip
      have c_5 : ¬ 10 ≤ 10 := fun hh => c_5 ((nI_leI (a := 10) (b := 10) (by omega) (by omega)).mpr hh)
      omega
  | succ n ih =>
    intro i A hi h1
    refine j_iload_n C dX0_orderBlocks_2 rfl ?_
    refine j_bipush C (v := nI (10)) dX0_orderBlocks_3 (by decide) ?_
    refine j_icmp_ge C 21 dX0_orderBlocks_5 (by decide) (fun c_5 => ?_) (fun c_5 => ?_)
    · skip
      have c_5 : 10 ≤ i := (nI_leI (a := 10) (b := i) (by omega) (by omega)).mp c_5
      omega
    · skip
      have c_5 : ¬ 10 ≤ i := fun hh => c_5 ((nI_leI (a := 10) (b := i) (by omega) (by omega)).mpr hh)
      refine j_aload_n C dX0_orderBlocks_8 rfl ?_
      refine x_get_place C X dX0_orderBlocks_9 ?_
      refine j_iload_n C dX0_orderBlocks_12 rfl ?_
      refine j_iconst C (v := -1) dX0_orderBlocks_13 (by decide) ?_
      obtain ⟨A_1, eA_1⟩ : ∃ Z, va_up A 10 (upd (A 10) (i) (-1)) = Z := ⟨_, rfl⟩
      refine x_ast_place (i) C X dX0_orderBlocks_14 rfl (by omega) eA_1 ?_
      refine j_iinc C (v := nI (i + 1)) (L' := [some (.ref (xh w)), some (.int (nI (i + 1))), none, none, none, none, none, none]) dX0_orderBlocks_15 rfl (nI_1 _) (Nat.le_of_ble_eq_true rfl) rfl rfl ?_
      refine j_goto C 2 dX0_orderBlocks_18 (by decide) ?_
      exact ih (i + 1) A_1 (by omega) (fun k hk => by rw [← eA_1, up_n hk]; exact h1 k hk)
set_option maxHeartbeats 4000000 in
set_option maxRecDepth 100000 in
theorem x_ob_loop {g : jG} {w : xT} {F : jF} (C : jC g cX0_orderBlocks 8) (X : xX g w 0) (A0 : jA) (heo : endOK A0) (hend : ∀ (left step mk : Nat) (z sd : Nat → Nat) (A : jA), dAbs A0 left 0 step mk z sd → dArr A left 0 z sd → (∀ k, k ≠ 9 → k ≠ 11 → k ≠ 12 → A k = A0 k) → J g (xP w F A) 190 [some (.ref (xh w)), some (.int (nI left)), some (.int (nI mk)), some (.int (nI 0)), some (.int (nI step)), none, none, none] []) :
    ∀ (fuel left d step mk : Nat) (z sd : Nat → Nat) (A : jA), step + fuel = 40 → dAbs A0 left d step mk z sd → dArr A left d z sd → (∀ k, k ≠ 9 → k ≠ 11 → k ≠ 12 → A k = A0 k) → J g (xP w F A) 45 [some (.ref (xh w)), some (.int (nI left)), some (.int (nI mk)), some (.int (nI d)), some (.int (nI step)), none, none, none] [] := by
  intro fuel
  induction fuel with
  | zero =>
    intro left d step mk z sd A hf hd hr hA
    have := (dAbs_le hd).2
    omega
  | succ fuel ih =>
    intro left d step mk z sd A hf hd hr hA
    have hle := dAbs_le hd
    have hl10 := hd.1
    have hmk := hd.2.1
    cases d with
    | zero =>
      refine j_iload C dX0_orderBlocks_45 rfl ?_
      refine j_bipush C (v := nI (40)) dX0_orderBlocks_47 (by decide) ?_
      refine j_icmp_ge C 190 dX0_orderBlocks_49 (by decide) (fun c_49 => ?_) (fun c_49 => ?_)
      · skip
        have c_49 : 40 ≤ step := (nI_leI (a := 40) (b := step) (by omega) (by omega)).mp c_49
        omega
      · skip
        have c_49 : ¬ 40 ≤ step := fun hh => c_49 ((nI_leI (a := 40) (b := step) (by omega) (by omega)).mpr hh)
        refine j_iload_n C dX0_orderBlocks_52 rfl ?_
        refine j_if_le C 190 dX0_orderBlocks_53 (by decide) (fun c_53 => ?_) (fun c_53 => ?_)
        · skip
          have c_53 : 0 ≤ 0 := (nI_leI (a := 0) (b := 0) (by omega) (by omega)).mp c_53
          exact hend left step mk z sd A hd hr hA
        · skip
          have c_53 : ¬ 0 ≤ 0 := fun hh => c_53 ((nI_leI (a := 0) (b := 0) (by omega) (by omega)).mpr hh)
          exact absurd (Nat.le_refl 0) c_53
    | succ e =>
      have hz := hd.2.2.2.1 e (.inl (by omega))
      have hse := hd.2.2.1 e (by omega)
      have he1 := hr.1 e (by omega)
      refine j_iload C dX0_orderBlocks_45 rfl ?_
      refine j_bipush C (v := nI (40)) dX0_orderBlocks_47 (by decide) ?_
      refine j_icmp_ge C 190 dX0_orderBlocks_49 (by decide) (fun c_49 => ?_) (fun c_49 => ?_)
      · skip
        have c_49 : 40 ≤ step := (nI_leI (a := 40) (b := step) (by omega) (by omega)).mp c_49
        omega
      · skip
        have c_49 : ¬ 40 ≤ step := fun hh => c_49 ((nI_leI (a := 40) (b := step) (by omega) (by omega)).mpr hh)
        refine j_iload_n C dX0_orderBlocks_52 rfl ?_
        refine j_if_le C 190 dX0_orderBlocks_53 (by decide) (fun c_53 => ?_) (fun c_53 => ?_)
        · skip
          have c_53 : e + 1 ≤ 0 := (nI_leI (a := e + 1) (b := 0) (by omega) (by omega)).mp c_53
          omega
        · skip
          have c_53 : ¬ e + 1 ≤ 0 := fun hh => c_53 ((nI_leI (a := e + 1) (b := 0) (by omega) (by omega)).mpr hh)
          refine j_aload_n C dX0_orderBlocks_56 rfl ?_
          refine x_get_walkStack C X dX0_orderBlocks_57 ?_
          refine j_iload_n C dX0_orderBlocks_60 rfl ?_
          refine j_iconst C (v := nI (1)) dX0_orderBlocks_61 (by decide) ?_
          refine j_isub C (v := nI ((e + 1) - 1)) dX0_orderBlocks_62 (pk_sub (by omega)) ?_
          refine x_ald_walkStack (v := nI (z e)) (e) C X dX0_orderBlocks_63 rfl (by omega) (he1.1) ?_
          refine j_istore C (L' := [some (.ref (xh w)), some (.int (nI left)), some (.int (nI mk)), some (.int (nI (e + 1))), some (.int (nI step)), some (.int (nI (z e))), none, none]) dX0_orderBlocks_64 (Nat.le_of_ble_eq_true rfl) rfl rfl ?_
          refine j_aload_n C dX0_orderBlocks_66 rfl ?_
          refine x_get_walkSide C X dX0_orderBlocks_67 ?_
          refine j_iload_n C dX0_orderBlocks_70 rfl ?_
          refine j_iconst C (v := nI (1)) dX0_orderBlocks_71 (by decide) ?_
          refine j_isub C (v := nI ((e + 1) - 1)) dX0_orderBlocks_72 (pk_sub (by omega)) ?_
          refine x_ald_walkSide (v := nI (sd e)) (e) C X dX0_orderBlocks_73 rfl (by omega) (he1.2) ?_
          refine j_istore C (L' := [some (.ref (xh w)), some (.int (nI left)), some (.int (nI mk)), some (.int (nI (e + 1))), some (.int (nI step)), some (.int (nI (z e))), some (.int (nI (sd e))), none]) dX0_orderBlocks_74 (Nat.le_of_ble_eq_true rfl) rfl rfl ?_
          refine j_aload_n C dX0_orderBlocks_76 rfl ?_
          refine x_get_walkSide C X dX0_orderBlocks_77 ?_
          refine j_iload_n C dX0_orderBlocks_80 rfl ?_
          refine j_iconst C (v := nI (1)) dX0_orderBlocks_81 (by decide) ?_
          refine j_isub C (v := nI ((e + 1) - 1)) dX0_orderBlocks_82 (pk_sub (by omega)) ?_
          refine j_dup2 C dX0_orderBlocks_83 rfl rfl ?_
          refine x_ald_walkSide (v := nI (sd e)) (e) C X dX0_orderBlocks_84 rfl (by omega) (he1.2) ?_
          refine j_iconst C (v := nI (1)) dX0_orderBlocks_85 (by decide) ?_
          refine j_iadd C (v := nI ((sd e) + 1)) dX0_orderBlocks_86 (nI_add _ _) ?_
          obtain ⟨A_1, eA_1⟩ : ∃ Z, va_up A 12 (upd (A 12) (e) (nI ((sd e) + 1))) = Z := ⟨_, rfl⟩
          refine x_ast_walkSide (e) C X dX0_orderBlocks_87 rfl (by omega) eA_1 ?_
          refine j_iload C dX0_orderBlocks_88 rfl ?_
          refine j_if_ne C 103 dX0_orderBlocks_90 (by decide) (fun c_90 => ?_) (fun c_90 => ?_)
          · skip
            have c_90 : ¬ (sd e = 0) := fun hh => c_90 ((nI_eq (a := sd e) (b := 0) (by omega) (by omega)).mpr hh)
            refine j_iload C dX0_orderBlocks_103 rfl ?_
            refine j_iconst C (v := nI (1)) dX0_orderBlocks_105 (by decide) ?_
            refine j_icmp_ne C 119 dX0_orderBlocks_106 (by decide) (fun c_106 => ?_) (fun c_106 => ?_)
            · skip
              have c_106 : ¬ (sd e = 1) := fun hh => c_106 ((nI_eq (a := sd e) (b := 1) (by omega) (by omega)).mpr hh)
              refine j_iconst C (v := -1) dX0_orderBlocks_119 (by decide) ?_
              refine j_istore C (L' := [some (.ref (xh w)), some (.int (nI left)), some (.int (nI mk)), some (.int (nI (e + 1))), some (.int (nI step)), some (.int (nI (z e))), some (.int (nI (sd e))), some (.int (-1))]) dX0_orderBlocks_120 (Nat.le_of_ble_eq_true rfl) rfl rfl ?_
              refine j_iload C dX0_orderBlocks_122 rfl ?_
              refine j_iconst C (v := nI (2)) dX0_orderBlocks_124 (by decide) ?_
              refine j_icmp_ne C 145 dX0_orderBlocks_125 (by decide) (fun c_125 => ?_) (fun c_125 => ?_)
              · skip
                have c_125 : ¬ (sd e = 2) := fun hh => c_125 ((nI_eq (a := sd e) (b := 2) (by omega) (by omega)).mpr hh)
                omega
              · skip
                have c_125 : sd e = 2 := (nI_eq (a := sd e) (b := 2) (by omega) (by omega)).mp c_125
                refine j_iinc C (v := nI (left - 1)) (L' := [some (.ref (xh w)), some (.int (nI (left - 1))), some (.int (nI mk)), some (.int (nI (e + 1))), some (.int (nI step)), some (.int (nI (z e))), some (.int (nI (sd e))), some (.int (-1))]) dX0_orderBlocks_128 rfl (sb_m1 (by omega)) (Nat.le_of_ble_eq_true rfl) rfl rfl ?_
                refine j_aload_n C dX0_orderBlocks_131 rfl ?_
                refine x_get_order C X dX0_orderBlocks_132 ?_
                refine j_iload_n C dX0_orderBlocks_135 rfl ?_
                refine j_iload C dX0_orderBlocks_136 rfl ?_
                obtain ⟨A_2, eA_2⟩ : ∃ Z, va_up A_1 9 (upd (A_1 9) (left - 1) (nI (z e))) = Z := ⟨_, rfl⟩
                refine x_ast_order (left - 1) C X dX0_orderBlocks_138 rfl (by omega) eA_2 ?_
                refine j_iinc C (v := nI (e)) (L' := [some (.ref (xh w)), some (.int (nI (left - 1))), some (.int (nI mk)), some (.int (nI e)), some (.int (nI step)), some (.int (nI (z e))), some (.int (nI (sd e))), some (.int (-1))]) dX0_orderBlocks_139 rfl (pk_m1 _) (Nat.le_of_ble_eq_true rfl) rfl rfl ?_
                refine j_goto C 184 dX0_orderBlocks_142 (by decide) ?_
                refine j_iinc C (v := nI (step + 1)) (L' := [some (.ref (xh w)), some (.int (nI (left - 1))), some (.int (nI mk)), some (.int (nI e)), some (.int (nI (step + 1))), some (.int (nI (z e))), some (.int (nI (sd e))), some (.int (-1))]) dX0_orderBlocks_184 rfl (nI_1 _) (Nat.le_of_ble_eq_true rfl) rfl rfl ?_
                refine j_goto C 45 dX0_orderBlocks_187 (by decide) ?_
                refine j_forget [true, true, true, true, true, false, false, false] rfl rfl ?_
                refine ih (left - 1) e (step + 1) mk (va_up z (left - 1) (z e)) sd A_2 (by omega) (dAbs_pop hd (by omega)) ⟨fun i hi => ?_, fun i h1 h2 => ?_⟩ (fun k h1 h2 h3 => ?_)
                · have hq := hr.1 i (by omega)
                  rw [up_n (by omega)]
                  refine ⟨?_, ?_⟩
                  · rw [← eA_2, up_n (by decide), ← eA_1, up_n (by decide)]; exact hq.1
                  · rw [← eA_2, up_n (by decide), ← eA_1, up_s, pk_un (by omega)]; exact hq.2
                · rw [← eA_2, up_s, ← eA_1, up_n (by decide)]
                  by_cases hx : i = left - 1
                  · subst hx
                    rw [pk_us, up_s]
                  · rw [pk_un hx, up_n hx]
                    exact hr.2 i (by omega) h2
                · rw [← eA_2, up_n h1, ← eA_1, up_n h3]; exact hA k h1 h2 h3
            · skip
              have c_106 : sd e = 1 := (nI_eq (a := sd e) (b := 1) (by omega) (by omega)).mp c_106
              refine j_aload_n C dX0_orderBlocks_109 rfl ?_
              refine x_get_second C X dX0_orderBlocks_110 ?_
              refine j_iload C dX0_orderBlocks_113 rfl ?_
              refine x_ald_second (v := A0 6 (z e)) (z e) C X dX0_orderBlocks_115 rfl (by omega) (by rw [← eA_1, up_n (by decide), hA 6 (by decide) (by decide) (by decide)]) ?_
              refine j_goto C 120 dX0_orderBlocks_116 (by decide) ?_
              refine j_istore C (L' := [some (.ref (xh w)), some (.int (nI left)), some (.int (nI mk)), some (.int (nI (e + 1))), some (.int (nI step)), some (.int (nI (z e))), some (.int (nI (sd e))), some (.int (A0 6 (z e)))]) dX0_orderBlocks_120 (Nat.le_of_ble_eq_true rfl) rfl rfl ?_
              refine j_iload C dX0_orderBlocks_122 rfl ?_
              refine j_iconst C (v := nI (2)) dX0_orderBlocks_124 (by decide) ?_
              refine j_icmp_ne C 145 dX0_orderBlocks_125 (by decide) (fun c_125 => ?_) (fun c_125 => ?_)
              · skip
                have c_125 : ¬ (sd e = 2) := fun hh => c_125 ((nI_eq (a := sd e) (b := 2) (by omega) (by omega)).mpr hh)
                rcases (heo (z e) hz.1).2.2 with et | ⟨t, ht, et⟩
                · skip
                  refine j_iload C dX0_orderBlocks_145 rfl ?_
                  refine j_if_lt C 184 dX0_orderBlocks_147 (by decide) (fun c_147 => ?_) (fun c_147 => ?_)
                  · skip
                    refine j_iinc C (v := nI (step + 1)) (L' := [some (.ref (xh w)), some (.int (nI left)), some (.int (nI mk)), some (.int (nI (e + 1))), some (.int (nI (step + 1))), some (.int (nI (z e))), some (.int (nI (sd e))), some (.int (A0 6 (z e)))]) dX0_orderBlocks_184 rfl (nI_1 _) (Nat.le_of_ble_eq_true rfl) rfl rfl ?_
                    refine j_goto C 45 dX0_orderBlocks_187 (by decide) ?_
                    refine j_forget [true, true, true, true, true, false, false, false] rfl rfl ?_
                    refine ih left (e + 1) (step + 1) mk z (va_up sd e (sd e + 1)) A_1 (by omega) (dAbs_stay hd (by omega) (fun x hx => ⟨fun h0 hq => ?_, fun h0 hq => ?_⟩)) ⟨fun i hi => ?_, fun i h1 h2 => ?_⟩ (fun k h1 h2 h3 => ?_)
                    · omega
                    · exact absurd (hq.symm.trans et) (nI_ne_neg (by omega))
                    · have hq := hr.1 i hi
                      refine ⟨?_, ?_⟩
                      · rw [← eA_1, up_n (by decide)]; exact hq.1
                      · rw [← eA_1, up_s]
                        by_cases hx : i = e
                        · subst hx
                          rw [pk_us, up_s]
                        · rw [pk_un hx, up_n hx]; exact hq.2
                    · rw [← eA_1, up_n (by decide)]; exact hr.2 i h1 h2
                    · rw [← eA_1, up_n h3]; exact hA k h1 h2 h3
                  · skip
                    exact absurd (by rw [et]; decide) c_147
                · skip
                  refine j_iload C dX0_orderBlocks_145 rfl ?_
                  refine j_if_lt C 184 dX0_orderBlocks_147 (by decide) (fun c_147 => ?_) (fun c_147 => ?_)
                  · skip
                    rw [et] at c_147; exact absurd c_147 (nI_pos (by omega))
                  · skip
                    refine j_iload_n C dX0_orderBlocks_150 rfl ?_
                    refine j_iload C dX0_orderBlocks_151 rfl ?_
                    refine j_ishr C (v := nI (mk / 2 ^ t)) dX0_orderBlocks_153 (by rw [et]; exact nI_shr (by omega) (by omega)) ?_
                    refine j_iconst C (v := nI (1)) dX0_orderBlocks_154 (by decide) ?_
                    refine j_iand C (v := nI (mk / 2 ^ t % 2)) dX0_orderBlocks_155 (nI_bit (Nat.lt_of_le_of_lt (Nat.div_le_self _ _) (by omega))) ?_
                    refine j_if_ne C 184 dX0_orderBlocks_156 (by decide) (fun c_156 => ?_) (fun c_156 => ?_)
                    · skip
                      have c_156 : ¬ (mk / 2 ^ t % 2 = 0) := fun hh => c_156 ((nI_eq (a := mk / 2 ^ t % 2) (b := 0) (by omega) (by omega)).mpr hh)
                      refine j_iinc C (v := nI (step + 1)) (L' := [some (.ref (xh w)), some (.int (nI left)), some (.int (nI mk)), some (.int (nI (e + 1))), some (.int (nI (step + 1))), some (.int (nI (z e))), some (.int (nI (sd e))), some (.int (A0 6 (z e)))]) dX0_orderBlocks_184 rfl (nI_1 _) (Nat.le_of_ble_eq_true rfl) rfl rfl ?_
                      refine j_goto C 45 dX0_orderBlocks_187 (by decide) ?_
                      refine j_forget [true, true, true, true, true, false, false, false] rfl rfl ?_
                      refine ih left (e + 1) (step + 1) mk z (va_up sd e (sd e + 1)) A_1 (by omega) (dAbs_stay hd (by omega) (fun x hx => ⟨fun h0 hq => ?_, fun h0 hq => ?_⟩)) ⟨fun i hi => ?_, fun i h1 h2 => ?_⟩ (fun k h1 h2 h3 => ?_)
                      · omega
                      · rw [show x = t from nI_inj (by omega) (by omega) (hq.symm.trans et)]
                        exact bit_1.mpr (by omega)
                      · have hq := hr.1 i hi
                        refine ⟨?_, ?_⟩
                        · rw [← eA_1, up_n (by decide)]; exact hq.1
                        · rw [← eA_1, up_s]
                          by_cases hx : i = e
                          · subst hx
                            rw [pk_us, up_s]
                          · rw [pk_un hx, up_n hx]; exact hq.2
                      · rw [← eA_1, up_n (by decide)]; exact hr.2 i h1 h2
                      · rw [← eA_1, up_n h3]; exact hA k h1 h2 h3
                    · skip
                      have c_156 : mk / 2 ^ t % 2 = 0 := (nI_eq (a := mk / 2 ^ t % 2) (b := 0) (by omega) (by omega)).mp c_156
                      refine j_iload_n C dX0_orderBlocks_159 rfl ?_
                      refine j_iconst C (v := nI (1)) dX0_orderBlocks_160 (by decide) ?_
                      refine j_iload C dX0_orderBlocks_161 rfl ?_
                      refine j_ishl C (v := nI (2 ^ t)) dX0_orderBlocks_163 (by rw [et]; exact nI_shl (by omega)) ?_
                      refine j_ior C (v := nI (mk ||| 2 ^ t)) dX0_orderBlocks_164 (nI_or _ _) ?_
                      refine j_istore_n C (L' := [some (.ref (xh w)), some (.int (nI left)), some (.int (nI (mk ||| 2 ^ t))), some (.int (nI (e + 1))), some (.int (nI step)), some (.int (nI (z e))), some (.int (nI (sd e))), some (.int (A0 6 (z e)))]) dX0_orderBlocks_165 (Nat.le_of_ble_eq_true rfl) rfl rfl ?_
                      refine j_aload_n C dX0_orderBlocks_166 rfl ?_
                      refine x_get_walkStack C X dX0_orderBlocks_167 ?_
                      refine j_iload_n C dX0_orderBlocks_170 rfl ?_
                      refine j_iload C dX0_orderBlocks_171 rfl ?_
                      obtain ⟨A_3, eA_3⟩ : ∃ Z, va_up A_1 11 (upd (A_1 11) (e + 1) (A0 6 (z e))) = Z := ⟨_, rfl⟩
                      refine x_ast_walkStack (e + 1) C X dX0_orderBlocks_173 rfl (by omega) eA_3 ?_
                      refine j_aload_n C dX0_orderBlocks_174 rfl ?_
                      refine x_get_walkSide C X dX0_orderBlocks_175 ?_
                      refine j_iload_n C dX0_orderBlocks_178 rfl ?_
                      refine j_iconst C (v := nI (0)) dX0_orderBlocks_179 (by decide) ?_
                      obtain ⟨A_4, eA_4⟩ : ∃ Z, va_up A_3 12 (upd (A_3 12) (e + 1) (nI (0))) = Z := ⟨_, rfl⟩
                      refine x_ast_walkSide (e + 1) C X dX0_orderBlocks_180 rfl (by omega) eA_4 ?_
                      refine j_iinc C (v := nI (e + 1 + 1)) (L' := [some (.ref (xh w)), some (.int (nI left)), some (.int (nI (mk ||| 2 ^ t))), some (.int (nI (e + 1 + 1))), some (.int (nI step)), some (.int (nI (z e))), some (.int (nI (sd e))), some (.int (A0 6 (z e)))]) dX0_orderBlocks_181 rfl (nI_1 _) (Nat.le_of_ble_eq_true rfl) rfl rfl ?_
                      refine j_iinc C (v := nI (step + 1)) (L' := [some (.ref (xh w)), some (.int (nI left)), some (.int (nI (mk ||| 2 ^ t))), some (.int (nI (e + 1 + 1))), some (.int (nI (step + 1))), some (.int (nI (z e))), some (.int (nI (sd e))), some (.int (A0 6 (z e)))]) dX0_orderBlocks_184 rfl (nI_1 _) (Nat.le_of_ble_eq_true rfl) rfl rfl ?_
                      refine j_goto C 45 dX0_orderBlocks_187 (by decide) ?_
                      refine j_forget [true, true, true, true, true, false, false, false] rfl rfl ?_
                      have hmt : mk.testBit t = false := by
                        cases hb : mk.testBit t with
                        | false => rfl
                        | true =>
                          have := bit_1.mp hb
                          omega
                      have hd2 := dAbs_push hd (by omega) hz.1 ht hmt (.inr ⟨c_106, et⟩)
                      have hle2 := dAbs_le hd2
                      refine ih left (e + 2) (step + 1) (mk ||| 2 ^ t) (va_up z (e + 1) t) (va_up (va_up sd e (sd e + 1)) (e + 1) 0) A_4 (by omega) hd2 ⟨fun i hi => ?_, fun i h1 h2 => ?_⟩ (fun k h1 h2 h3 => ?_)
                      · refine ⟨?_, ?_⟩
                        · rw [← eA_4, up_n (by decide), ← eA_3, up_s, ← eA_1, up_n (by decide)]
                          by_cases hx : i = e + 1
                          · subst hx
                            rw [pk_us, up_s]; exact et
                          · rw [pk_un hx, up_n hx]; exact (hr.1 i (by omega)).1
                        · rw [← eA_4, up_s, ← eA_3, up_n (by decide), ← eA_1, up_s]
                          by_cases hx : i = e + 1
                          · subst hx
                            rw [pk_us, up_s]
                          · rw [pk_un hx, up_n hx]
                            by_cases hy : i = e
                            · subst hy
                              rw [pk_us, up_s]
                            · rw [pk_un hy, up_n hy]; exact (hr.1 i (by omega)).2
                      · rw [← eA_4, up_n (by decide), ← eA_3, up_n (by decide), ← eA_1, up_n (by decide), up_n (by omega)]; exact hr.2 i h1 h2
                      · rw [← eA_4, up_n h3, ← eA_3, up_n h2, ← eA_1, up_n h3]; exact hA k h1 h2 h3
              · skip
                have c_125 : sd e = 2 := (nI_eq (a := sd e) (b := 2) (by omega) (by omega)).mp c_125
                omega
          · skip
            have c_90 : sd e = 0 := (nI_eq (a := sd e) (b := 0) (by omega) (by omega)).mp c_90
            refine j_aload_n C dX0_orderBlocks_93 rfl ?_
            refine x_get_first C X dX0_orderBlocks_94 ?_
            refine j_iload C dX0_orderBlocks_97 rfl ?_
            refine x_ald_first (v := A0 5 (z e)) (z e) C X dX0_orderBlocks_99 rfl (by omega) (by rw [← eA_1, up_n (by decide), hA 5 (by decide) (by decide) (by decide)]) ?_
            refine j_goto C 120 dX0_orderBlocks_100 (by decide) ?_
            refine j_istore C (L' := [some (.ref (xh w)), some (.int (nI left)), some (.int (nI mk)), some (.int (nI (e + 1))), some (.int (nI step)), some (.int (nI (z e))), some (.int (nI (sd e))), some (.int (A0 5 (z e)))]) dX0_orderBlocks_120 (Nat.le_of_ble_eq_true rfl) rfl rfl ?_
            refine j_iload C dX0_orderBlocks_122 rfl ?_
            refine j_iconst C (v := nI (2)) dX0_orderBlocks_124 (by decide) ?_
            refine j_icmp_ne C 145 dX0_orderBlocks_125 (by decide) (fun c_125 => ?_) (fun c_125 => ?_)
            · skip
              have c_125 : ¬ (sd e = 2) := fun hh => c_125 ((nI_eq (a := sd e) (b := 2) (by omega) (by omega)).mpr hh)
              rcases (heo (z e) hz.1).2.1 with et | ⟨t, ht, et⟩
              · skip
                refine j_iload C dX0_orderBlocks_145 rfl ?_
                refine j_if_lt C 184 dX0_orderBlocks_147 (by decide) (fun c_147 => ?_) (fun c_147 => ?_)
                · skip
                  refine j_iinc C (v := nI (step + 1)) (L' := [some (.ref (xh w)), some (.int (nI left)), some (.int (nI mk)), some (.int (nI (e + 1))), some (.int (nI (step + 1))), some (.int (nI (z e))), some (.int (nI (sd e))), some (.int (A0 5 (z e)))]) dX0_orderBlocks_184 rfl (nI_1 _) (Nat.le_of_ble_eq_true rfl) rfl rfl ?_
                  refine j_goto C 45 dX0_orderBlocks_187 (by decide) ?_
                  refine j_forget [true, true, true, true, true, false, false, false] rfl rfl ?_
                  refine ih left (e + 1) (step + 1) mk z (va_up sd e (sd e + 1)) A_1 (by omega) (dAbs_stay hd (by omega) (fun x hx => ⟨fun h0 hq => ?_, fun h0 hq => ?_⟩)) ⟨fun i hi => ?_, fun i h1 h2 => ?_⟩ (fun k h1 h2 h3 => ?_)
                  · exact absurd (hq.symm.trans et) (nI_ne_neg (by omega))
                  · omega
                  · have hq := hr.1 i hi
                    refine ⟨?_, ?_⟩
                    · rw [← eA_1, up_n (by decide)]; exact hq.1
                    · rw [← eA_1, up_s]
                      by_cases hx : i = e
                      · subst hx
                        rw [pk_us, up_s]
                      · rw [pk_un hx, up_n hx]; exact hq.2
                  · rw [← eA_1, up_n (by decide)]; exact hr.2 i h1 h2
                  · rw [← eA_1, up_n h3]; exact hA k h1 h2 h3
                · skip
                  exact absurd (by rw [et]; decide) c_147
              · skip
                refine j_iload C dX0_orderBlocks_145 rfl ?_
                refine j_if_lt C 184 dX0_orderBlocks_147 (by decide) (fun c_147 => ?_) (fun c_147 => ?_)
                · skip
                  rw [et] at c_147; exact absurd c_147 (nI_pos (by omega))
                · skip
                  refine j_iload_n C dX0_orderBlocks_150 rfl ?_
                  refine j_iload C dX0_orderBlocks_151 rfl ?_
                  refine j_ishr C (v := nI (mk / 2 ^ t)) dX0_orderBlocks_153 (by rw [et]; exact nI_shr (by omega) (by omega)) ?_
                  refine j_iconst C (v := nI (1)) dX0_orderBlocks_154 (by decide) ?_
                  refine j_iand C (v := nI (mk / 2 ^ t % 2)) dX0_orderBlocks_155 (nI_bit (Nat.lt_of_le_of_lt (Nat.div_le_self _ _) (by omega))) ?_
                  refine j_if_ne C 184 dX0_orderBlocks_156 (by decide) (fun c_156 => ?_) (fun c_156 => ?_)
                  · skip
                    have c_156 : ¬ (mk / 2 ^ t % 2 = 0) := fun hh => c_156 ((nI_eq (a := mk / 2 ^ t % 2) (b := 0) (by omega) (by omega)).mpr hh)
                    refine j_iinc C (v := nI (step + 1)) (L' := [some (.ref (xh w)), some (.int (nI left)), some (.int (nI mk)), some (.int (nI (e + 1))), some (.int (nI (step + 1))), some (.int (nI (z e))), some (.int (nI (sd e))), some (.int (A0 5 (z e)))]) dX0_orderBlocks_184 rfl (nI_1 _) (Nat.le_of_ble_eq_true rfl) rfl rfl ?_
                    refine j_goto C 45 dX0_orderBlocks_187 (by decide) ?_
                    refine j_forget [true, true, true, true, true, false, false, false] rfl rfl ?_
                    refine ih left (e + 1) (step + 1) mk z (va_up sd e (sd e + 1)) A_1 (by omega) (dAbs_stay hd (by omega) (fun x hx => ⟨fun h0 hq => ?_, fun h0 hq => ?_⟩)) ⟨fun i hi => ?_, fun i h1 h2 => ?_⟩ (fun k h1 h2 h3 => ?_)
                    · rw [show x = t from nI_inj (by omega) (by omega) (hq.symm.trans et)]
                      exact bit_1.mpr (by omega)
                    · omega
                    · have hq := hr.1 i hi
                      refine ⟨?_, ?_⟩
                      · rw [← eA_1, up_n (by decide)]; exact hq.1
                      · rw [← eA_1, up_s]
                        by_cases hx : i = e
                        · subst hx
                          rw [pk_us, up_s]
                        · rw [pk_un hx, up_n hx]; exact hq.2
                    · rw [← eA_1, up_n (by decide)]; exact hr.2 i h1 h2
                    · rw [← eA_1, up_n h3]; exact hA k h1 h2 h3
                  · skip
                    have c_156 : mk / 2 ^ t % 2 = 0 := (nI_eq (a := mk / 2 ^ t % 2) (b := 0) (by omega) (by omega)).mp c_156
                    refine j_iload_n C dX0_orderBlocks_159 rfl ?_
                    refine j_iconst C (v := nI (1)) dX0_orderBlocks_160 (by decide) ?_
                    refine j_iload C dX0_orderBlocks_161 rfl ?_
                    refine j_ishl C (v := nI (2 ^ t)) dX0_orderBlocks_163 (by rw [et]; exact nI_shl (by omega)) ?_
                    refine j_ior C (v := nI (mk ||| 2 ^ t)) dX0_orderBlocks_164 (nI_or _ _) ?_
                    refine j_istore_n C (L' := [some (.ref (xh w)), some (.int (nI left)), some (.int (nI (mk ||| 2 ^ t))), some (.int (nI (e + 1))), some (.int (nI step)), some (.int (nI (z e))), some (.int (nI (sd e))), some (.int (A0 5 (z e)))]) dX0_orderBlocks_165 (Nat.le_of_ble_eq_true rfl) rfl rfl ?_
                    refine j_aload_n C dX0_orderBlocks_166 rfl ?_
                    refine x_get_walkStack C X dX0_orderBlocks_167 ?_
                    refine j_iload_n C dX0_orderBlocks_170 rfl ?_
                    refine j_iload C dX0_orderBlocks_171 rfl ?_
                    obtain ⟨A_5, eA_5⟩ : ∃ Z, va_up A_1 11 (upd (A_1 11) (e + 1) (A0 5 (z e))) = Z := ⟨_, rfl⟩
                    refine x_ast_walkStack (e + 1) C X dX0_orderBlocks_173 rfl (by omega) eA_5 ?_
                    refine j_aload_n C dX0_orderBlocks_174 rfl ?_
                    refine x_get_walkSide C X dX0_orderBlocks_175 ?_
                    refine j_iload_n C dX0_orderBlocks_178 rfl ?_
                    refine j_iconst C (v := nI (0)) dX0_orderBlocks_179 (by decide) ?_
                    obtain ⟨A_6, eA_6⟩ : ∃ Z, va_up A_5 12 (upd (A_5 12) (e + 1) (nI (0))) = Z := ⟨_, rfl⟩
                    refine x_ast_walkSide (e + 1) C X dX0_orderBlocks_180 rfl (by omega) eA_6 ?_
                    refine j_iinc C (v := nI (e + 1 + 1)) (L' := [some (.ref (xh w)), some (.int (nI left)), some (.int (nI (mk ||| 2 ^ t))), some (.int (nI (e + 1 + 1))), some (.int (nI step)), some (.int (nI (z e))), some (.int (nI (sd e))), some (.int (A0 5 (z e)))]) dX0_orderBlocks_181 rfl (nI_1 _) (Nat.le_of_ble_eq_true rfl) rfl rfl ?_
                    refine j_iinc C (v := nI (step + 1)) (L' := [some (.ref (xh w)), some (.int (nI left)), some (.int (nI (mk ||| 2 ^ t))), some (.int (nI (e + 1 + 1))), some (.int (nI (step + 1))), some (.int (nI (z e))), some (.int (nI (sd e))), some (.int (A0 5 (z e)))]) dX0_orderBlocks_184 rfl (nI_1 _) (Nat.le_of_ble_eq_true rfl) rfl rfl ?_
                    refine j_goto C 45 dX0_orderBlocks_187 (by decide) ?_
                    refine j_forget [true, true, true, true, true, false, false, false] rfl rfl ?_
                    have hmt : mk.testBit t = false := by
                      cases hb : mk.testBit t with
                      | false => rfl
                      | true =>
                        have := bit_1.mp hb
                        omega
                    have hd2 := dAbs_push hd (by omega) hz.1 ht hmt (.inl ⟨c_90, et⟩)
                    have hle2 := dAbs_le hd2
                    refine ih left (e + 2) (step + 1) (mk ||| 2 ^ t) (va_up z (e + 1) t) (va_up (va_up sd e (sd e + 1)) (e + 1) 0) A_6 (by omega) hd2 ⟨fun i hi => ?_, fun i h1 h2 => ?_⟩ (fun k h1 h2 h3 => ?_)
                    · refine ⟨?_, ?_⟩
                      · rw [← eA_6, up_n (by decide), ← eA_5, up_s, ← eA_1, up_n (by decide)]
                        by_cases hx : i = e + 1
                        · subst hx
                          rw [pk_us, up_s]; exact et
                        · rw [pk_un hx, up_n hx]; exact (hr.1 i (by omega)).1
                      · rw [← eA_6, up_s, ← eA_5, up_n (by decide), ← eA_1, up_s]
                        by_cases hx : i = e + 1
                        · subst hx
                          rw [pk_us, up_s]
                        · rw [pk_un hx, up_n hx]
                          by_cases hy : i = e
                          · subst hy
                            rw [pk_us, up_s]
                          · rw [pk_un hy, up_n hy]; exact (hr.1 i (by omega)).2
                    · rw [← eA_6, up_n (by decide), ← eA_5, up_n (by decide), ← eA_1, up_n (by decide), up_n (by omega)]; exact hr.2 i h1 h2
                    · rw [← eA_6, up_n h3, ← eA_5, up_n h2, ← eA_1, up_n h3]; exact hA k h1 h2 h3
            · skip
              have c_125 : sd e = 2 := (nI_eq (a := sd e) (b := 2) (by omega) (by omega)).mp c_125
              omega
set_option maxHeartbeats 4000000 in
set_option maxRecDepth 100000 in
theorem x_ob_front {g : jG} {w : xT} {F : jF} (C : jC g cX0_orderBlocks 8) (X : xX g w 0) (A0 : jA) {left : Nat} {z : Nat → Nat} {met : Int32} (hl : left ≤ 10) (hF : F 8 = nI (10 - left)) (hz : ∀ i, left ≤ i → i < 10 → z i < 10) (hinj : ∀ i j, left ≤ i → i < 10 → left ≤ j → j < 10 → z i = z j → i = j) (hend : ∀ A : jA, (∀ p, p < 10 - left → A 9 p = nI (z (left + p))) → (∀ p, p < 10 - left → A 10 (z (left + p)) = nI p) → (∀ k, k ≠ 9 → k ≠ 10 → A k = A0 k) → J g (xP w F A) 246 [some (.ref (xh w)), some (.int (nI left)), some (.int (met)), some (.int (nI 0)), some (.int (nI (10 - left))), none, none, none] []) :
    ∀ (n p : Nat) (A : jA), p + n = 10 - left → (∀ q, q < p → A 9 q = nI (z (left + q))) → (∀ i, left ≤ i → p ≤ i → i < 10 → A 9 i = nI (z i)) → (∀ q, q < p → A 10 (z (left + q)) = nI q) → (∀ k, k ≠ 9 → k ≠ 10 → A k = A0 k) → J g (xP w F A) 201 [some (.ref (xh w)), some (.int (nI left)), some (.int (met)), some (.int (nI 0)), some (.int (nI p)), none, none, none] [] := by
  intro n
  induction n with
  | zero =>
    intro p A hp h1 h2 h3 h4
    obtain rfl : p = 10 - left := by omega
    refine j_iload C dX0_orderBlocks_201 rfl ?_
    refine j_aload_n C dX0_orderBlocks_203 rfl ?_
    refine x_get_count C X dX0_orderBlocks_204 ?_
    refine j_top (y := nI (10 - left)) (hF) ?_
    refine j_icmp_ge C 246 dX0_orderBlocks_207 (by decide) (fun c_207 => ?_) (fun c_207 => ?_)
    · skip
      have c_207 : 10 - left ≤ 10 - left := (nI_leI (a := 10 - left) (b := 10 - left) (by omega) (by omega)).mp c_207
      exact hend A h1 h3 h4
    · skip
      have c_207 : ¬ 10 - left ≤ 10 - left := fun hh => c_207 ((nI_leI (a := 10 - left) (b := 10 - left) (by omega) (by omega)).mpr hh)
      omega
  | succ n ih =>
    intro p A hp h1 h2 h3 h4
    refine j_iload C dX0_orderBlocks_201 rfl ?_
    refine j_aload_n C dX0_orderBlocks_203 rfl ?_
    refine x_get_count C X dX0_orderBlocks_204 ?_
    refine j_top (y := nI (10 - left)) (hF) ?_
    refine j_icmp_ge C 246 dX0_orderBlocks_207 (by decide) (fun c_207 => ?_) (fun c_207 => ?_)
    · skip
      have c_207 : 10 - left ≤ p := (nI_leI (a := 10 - left) (b := p) (by omega) (by omega)).mp c_207
      omega
    · skip
      have c_207 : ¬ 10 - left ≤ p := fun hh => c_207 ((nI_leI (a := 10 - left) (b := p) (by omega) (by omega)).mpr hh)
      refine j_aload_n C dX0_orderBlocks_210 rfl ?_
      refine x_get_order C X dX0_orderBlocks_211 ?_
      refine j_iload C dX0_orderBlocks_214 rfl ?_
      refine j_aload_n C dX0_orderBlocks_216 rfl ?_
      refine x_get_order C X dX0_orderBlocks_217 ?_
      refine j_iload_n C dX0_orderBlocks_220 rfl ?_
      refine j_iload C dX0_orderBlocks_221 rfl ?_
      refine j_iadd C (v := nI (left + p)) dX0_orderBlocks_223 (nI_add _ _) ?_
      refine x_ald_order (v := nI (z (left + p))) (left + p) C X dX0_orderBlocks_224 rfl (by omega) (h2 (left + p) (by omega) (by omega) (by omega)) ?_
      obtain ⟨A_1, eA_1⟩ : ∃ Z, va_up A 9 (upd (A 9) (p) (nI (z (left + p)))) = Z := ⟨_, rfl⟩
      refine x_ast_order (p) C X dX0_orderBlocks_225 rfl (by omega) eA_1 ?_
      refine j_aload_n C dX0_orderBlocks_226 rfl ?_
      refine x_get_place C X dX0_orderBlocks_227 ?_
      refine j_aload_n C dX0_orderBlocks_230 rfl ?_
      refine x_get_order C X dX0_orderBlocks_231 ?_
      refine j_iload C dX0_orderBlocks_234 rfl ?_
      refine x_ald_order (v := nI (z (left + p))) (p) C X dX0_orderBlocks_236 rfl (by omega) (by rw [← eA_1, up_s, pk_us]) ?_
      refine j_iload C dX0_orderBlocks_237 rfl ?_
      obtain ⟨A_2, eA_2⟩ : ∃ Z, va_up A_1 10 (upd (A_1 10) (z (left + p)) (nI (p))) = Z := ⟨_, rfl⟩
      refine x_ast_place (z (left + p)) C X dX0_orderBlocks_239 rfl (hz (left + p) (by omega) (by omega)) eA_2 ?_
      refine j_iinc C (v := nI (p + 1)) (L' := [some (.ref (xh w)), some (.int (nI left)), some (.int (met)), some (.int (nI 0)), some (.int (nI (p + 1))), none, none, none]) dX0_orderBlocks_240 rfl (nI_1 _) (Nat.le_of_ble_eq_true rfl) rfl rfl ?_
      refine j_goto C 201 dX0_orderBlocks_243 (by decide) ?_
      refine ih (p + 1) A_2 (by omega) (fun q hq => ?_) (fun i a b c => ?_) (fun q hq => ?_) (fun k a b => ?_)
      · rw [← eA_2, up_n (by decide), ← eA_1, up_s]
        by_cases hx : q = p
        · subst hx
          rw [pk_us]
        · rw [pk_un hx]; exact h1 q (by omega)
      · rw [← eA_2, up_n (by decide), ← eA_1, up_s, pk_un (by omega)]; exact h2 i a (by omega) c
      · rw [← eA_2, up_s, ← eA_1, up_n (by decide)]
        by_cases hx : q = p
        · subst hx
          rw [pk_us]
        · rw [pk_un (fun e => hx (by have := hinj (left + q) (left + p) (by omega) (by omega) (by omega) (by omega) e; omega))]
          exact h3 q (by omega)
      · rw [← eA_2, up_n b, ← eA_1, up_n a]; exact h4 k a b
set_option maxHeartbeats 4000000 in
set_option maxRecDepth 100000 in
theorem x_orderBlocks (F : jF) (A : jA) (heo : endOK A) : xMv yX0_orderBlocks cX0_orderBlocks 8 0 [] F A (fun F1 A1 => (∃ c o, pOrd F1 A1 c o) ∧ (∀ k, k ≠ 9 → k ≠ 10 → k ≠ 11 → k ≠ 12 → A1 k = A k) ∧ ∀ k, k ≠ 8 → F1 k = F k) := by
  refine xMv.intro (fun h => [some (.ref (h)), none, none, none, none, none, none, none]) (by decide) rfl (fun _ => rfl) (fun _ => rfl) (fun _ => Nat.le_of_ble_eq_true rfl) ?_
  intro g w C X ret
  show J g (xP w F A) 0 [some (.ref (xh w)), none, none, none, none, none, none, none] []
  refine j_iconst C (v := nI (0)) dX0_orderBlocks_0 (by decide) ?_
  refine j_istore_n C (L' := [some (.ref (xh w)), some (.int (nI 0)), none, none, none, none, none, none]) dX0_orderBlocks_1 (Nat.le_of_ble_eq_true rfl) rfl rfl ?_
  refine x_ob_z C X A (fun A1 k1 => ?_) 10 0 A (by omega) (fun _ _ => rfl)
  refine j_bipush C (v := nI (10)) dX0_orderBlocks_21 (by decide) ?_
  refine j_istore_n C (L' := [some (.ref (xh w)), some (.int (nI 10)), none, none, none, none, none, none]) dX0_orderBlocks_23 (Nat.le_of_ble_eq_true rfl) rfl rfl ?_
  refine j_iconst C (v := nI (1)) dX0_orderBlocks_24 (by decide) ?_
  refine j_istore_n C (L' := [some (.ref (xh w)), some (.int (nI 10)), some (.int (nI 1)), none, none, none, none, none]) dX0_orderBlocks_25 (Nat.le_of_ble_eq_true rfl) rfl rfl ?_
  refine j_iconst C (v := nI (1)) dX0_orderBlocks_26 (by decide) ?_
  refine j_istore_n C (L' := [some (.ref (xh w)), some (.int (nI 10)), some (.int (nI 1)), some (.int (nI 1)), none, none, none, none]) dX0_orderBlocks_27 (Nat.le_of_ble_eq_true rfl) rfl rfl ?_
  refine j_aload_n C dX0_orderBlocks_28 rfl ?_
  refine x_get_walkStack C X dX0_orderBlocks_29 ?_
  refine j_iconst C (v := nI (0)) dX0_orderBlocks_32 (by decide) ?_
  refine j_iconst C (v := nI (0)) dX0_orderBlocks_33 (by decide) ?_
  obtain ⟨A_1, eA_1⟩ : ∃ Z, va_up A1 11 (upd (A1 11) (0) (nI (0))) = Z := ⟨_, rfl⟩
  refine x_ast_walkStack (0) C X dX0_orderBlocks_34 rfl (by omega) eA_1 ?_
  refine j_aload_n C dX0_orderBlocks_35 rfl ?_
  refine x_get_walkSide C X dX0_orderBlocks_36 ?_
  refine j_iconst C (v := nI (0)) dX0_orderBlocks_39 (by decide) ?_
  refine j_iconst C (v := nI (0)) dX0_orderBlocks_40 (by decide) ?_
  obtain ⟨A_2, eA_2⟩ : ∃ Z, va_up A_1 12 (upd (A_1 12) (0) (nI (0))) = Z := ⟨_, rfl⟩
  refine x_ast_walkSide (0) C X dX0_orderBlocks_41 rfl (by omega) eA_2 ?_
  refine j_iconst C (v := nI (0)) dX0_orderBlocks_42 (by decide) ?_
  refine j_istore C (L' := [some (.ref (xh w)), some (.int (nI 10)), some (.int (nI 1)), some (.int (nI 1)), some (.int (nI 0)), none, none, none]) dX0_orderBlocks_43 (Nat.le_of_ble_eq_true rfl) rfl rfl ?_
  refine x_ob_loop C X A1 (endOK_congr (fun k hk => k1 k (by omega)) heo) (fun left step mk z sd A4 hd hr hA => ?_) 40 10 1 0 1 (fun _ => 0) (fun _ => 0) A_2 (by omega) (dAbs_0 A1) ⟨fun i hi => ?_, fun i h1 h2 => by omega⟩ (fun k h1 h2 h3 => ?_)
  · have hl10 := hd.1
    refine j_aload_n C dX0_orderBlocks_190 rfl ?_
    refine j_bipush C (v := nI (10)) dX0_orderBlocks_191 (by decide) ?_
    refine j_iload_n C dX0_orderBlocks_193 rfl ?_
    refine j_isub C (v := nI (10 - left)) dX0_orderBlocks_194 (pk_sub (by omega)) ?_
    refine x_put_count C X dX0_orderBlocks_195 rfl ?_
    refine j_iconst C (v := nI (0)) dX0_orderBlocks_198 (by decide) ?_
    refine j_istore C (L' := [some (.ref (xh w)), some (.int (nI left)), some (.int (nI mk)), some (.int (nI 0)), some (.int (nI 0)), none, none, none]) dX0_orderBlocks_199 (Nat.le_of_ble_eq_true rfl) rfl rfl ?_
    refine x_ob_front C X A4 (z := z) hl10 pk_us (fun i a b => (hd.2.2.2.1 i (.inr ⟨a, b⟩)).1) (fun i j a b c d => hd.2.2.2.2.1 i j (.inr ⟨a, b⟩) (.inr ⟨c, d⟩)) (fun A5 q1 q2 q3 => ?_) (10 - left) 0 A4 (by omega) (fun q hq => by omega) (fun i a _ c => hr.2 i a c) (fun q hq => by omega) (fun _ _ _ => rfl)
    refine ret _ _ _ _ dX0_orderBlocks_246 ⟨⟨10 - left, fun p => z (left + p), dAbs_end hd ?_ ?_ pk_us q1 q2⟩, fun k a b c d => ?_, fun k hk => pk_un hk⟩
    · rw [q3 5 (by decide) (by decide), hA 5 (by decide) (by decide) (by decide)]
    · rw [q3 6 (by decide) (by decide), hA 6 (by decide) (by decide) (by decide)]
    · rw [q3 k a b, hA k a c d, k1 k b]
  · obtain rfl : i = 0 := by omega
    refine ⟨?_, ?_⟩
    · rw [← eA_2, up_n (by decide), ← eA_1, up_s, pk_us]
    · rw [← eA_2, up_s, pk_us]
  · rw [← eA_2, up_n h3, ← eA_1, up_n h2]
end
section
theorem pigeon : ∀ (m n : Nat) (f : Nat → Nat), (∀ i, i < n → f i < m) → (∀ i j, i < n → j < n → f i = f j → i = j) → n ≤ m
  | 0, n, f, h, _ => by
    rcases Nat.eq_zero_or_pos n with h0 | h0
    · omega
    · exact absurd (h 0 h0) (Nat.not_lt_zero _)
  | m + 1, n, f, h, hi => by
    by_cases hx : ∃ k, k < n ∧ f k = m
    · obtain ⟨k, hk, ek⟩ := hx
      have := pigeon m (n - 1) (fun i => if i < k then f i else f (i + 1)) (fun i hi2 => by
        show (if i < k then f i else f (i + 1)) < m
        split
        next h1 =>
          have h2 := h i (by omega)
          have h3 : f i ≠ m := fun e => by
            have := hi i k (by omega) hk (e.trans ek.symm)
            omega
          omega
        next h1 =>
          have h2 := h (i + 1) (by omega)
          have h3 : f (i + 1) ≠ m := fun e => by
            have := hi (i + 1) k (by omega) hk (e.trans ek.symm)
            omega
          omega) (fun i j hi2 hj2 e => by
        have e : (if i < k then f i else f (i + 1)) = if j < k then f j else f (j + 1) := e
        split at e
        next h1 =>
          split at e
          next h2 => exact hi i j (by omega) (by omega) e
          next h2 =>
            have := hi i (j + 1) (by omega) (by omega) e
            omega
        next h1 =>
          split at e
          next h2 =>
            have := hi (i + 1) j (by omega) (by omega) e
            omega
          next h2 =>
            have := hi (i + 1) (j + 1) (by omega) (by omega) e
            omega)
      omega
    · have := pigeon m n f (fun i hi2 => by
        have h2 := h i hi2
        have h3 : f i ≠ m := fun e => hx ⟨i, hi2, e⟩
        omega) hi
      omega
theorem pLoop_app {F F1 : jF} {A A1 : jA} {c n a b : Nat} (h : pLoop F A c n) (hno : ∀ l, l < n → A 14 l ≠ nI a) (hab : a ≤ b) (hb : b < c) (hc : c ≤ 10) (hF : F1 13 = nI (n + 1)) (h14 : A1 14 = upd (A 14) n (nI a)) (h15 : A1 15 = upd (A 15) n (nI b)) :
    pLoop F1 A1 c (n + 1) ∧ Cov A1 (n + 1) a b ∧ ∀ x y, Cov A n x y → Cov A1 (n + 1) x y := by
  obtain ⟨q1, q2, q3, q4⟩ := h
  have k14 : ∀ l, l < n → A1 14 l = A 14 l := fun l hl => by rw [h14, pk_un (by omega)]
  have k15 : ∀ l, l < n → A1 15 l = A 15 l := fun l hl => by rw [h15, pk_un (by omega)]
  have n14 : A1 14 n = nI a := by rw [h14, pk_us]
  have n15 : A1 15 n = nI b := by rw [h15, pk_us]
  have g3 : ∀ l, l < n + 1 → ∃ a b, A1 14 l = nI a ∧ A1 15 l = nI b ∧ a ≤ b ∧ b < c := by
    intro l hl
    by_cases hx : l = n
    · subst hx
      exact ⟨a, b, n14, n15, hab, hb⟩
    · rw [k14 l (by omega), k15 l (by omega)]
      exact q3 l (by omega)
  have g4 : ∀ l k, l < n + 1 → k < n + 1 → A1 14 l = A1 14 k → l = k := by
    intro l k hl hk e
    by_cases hx : l = n
    · by_cases hy : k = n
      · omega
      · rw [hx, n14, k14 k (by omega)] at e
        exact absurd e.symm (hno k (by omega))
    · by_cases hy : k = n
      · rw [hy, n14, k14 l (by omega)] at e
        exact absurd e (hno l (by omega))
      · rw [k14 l (by omega), k14 k (by omega)] at e
        exact q4 l k (by omega) (by omega) e
  have g2 : n + 1 ≤ 10 := by
    refine pigeon 10 (n + 1) (fun l => (A1 14 l).toNatClampNeg) (fun l hl => ?_) (fun l k hl hk e => ?_)
    · obtain ⟨x, y, e1, -, h1, h2⟩ := g3 l hl
      show (A1 14 l).toNatClampNeg < 10
      rw [e1, nI_clamp (by omega)]
      omega
    · obtain ⟨x, y, e1, -, h1, h2⟩ := g3 l hl
      obtain ⟨x2, y2, e12, -, h12, h22⟩ := g3 k hk
      have e : (A1 14 l).toNatClampNeg = (A1 14 k).toNatClampNeg := e
      rw [e1, e12, nI_clamp (by omega), nI_clamp (by omega)] at e
      exact g4 l k hl hk (by rw [e1, e12, e])
  refine ⟨⟨hF, g2, g3, g4⟩, ⟨n, b, by omega, n14, n15, Nat.le_refl _, by omega⟩, ?_⟩
  rintro x y ⟨l, t, hl, e1, e2, h1, h2⟩
  exact ⟨l, t, by omega, (k14 l hl).trans e1, (k15 l hl).trans e2, h1, h2⟩
theorem pLoop_up {F F1 : jF} {A A1 : jA} {c n l fa ta b : Nat} (h : pLoop F A c n) (hl : l < n) (e14 : A 14 l = nI fa) (e15 : A 15 l = nI ta) (hta : ta ≤ b) (hft : fa ≤ ta) (hb : b < c) (hc : c ≤ 10) (hF : F1 13 = F 13) (h14 : A1 14 = A 14) (h15 : A1 15 = upd (A 15) l (nI b)) :
    pLoop F1 A1 c n ∧ Cov A1 n fa b ∧ ∀ x y, Cov A n x y → Cov A1 n x y := by
  obtain ⟨q1, q2, q3, q4⟩ := h
  refine ⟨⟨hF.trans q1, q2, fun k hk => ?_, fun i k hi hk e => ?_⟩, ⟨l, b, hl, by rw [h14]; exact e14, by rw [h15, pk_us], Nat.le_refl _, by omega⟩, ?_⟩
  · by_cases hx : k = l
    · subst hx
      exact ⟨fa, b, by rw [h14]; exact e14, by rw [h15, pk_us], by omega, hb⟩
    · rw [h14, h15, pk_un hx]
      exact q3 k hk
  · rw [h14] at e
    exact q4 i k hi hk e
  · rintro x y ⟨k, t, hk, e1, e2, h1, h2⟩
    by_cases hx : k = l
    · subst hx
      have : t = ta := nI_inj (by omega) (by omega) (e2.symm.trans e15)
      subst this
      exact ⟨k, b, hk, by rw [h14]; exact e1, by rw [h15, pk_us], by omega, by omega⟩
    · exact ⟨k, t, hk, by rw [h14]; exact e1, by rw [h15, pk_un hx]; exact e2, h1, h2⟩
set_option maxHeartbeats 4000000 in
set_option maxRecDepth 100000 in
theorem x_al_loop {g : jG} {w : xT} {F : jF} {A : jA} (C : jC g cX0_addLoop 4) (X : xX g w 0) {a b c n : Nat} (hab : a ≤ b) (hb : b < c) (hc : c ≤ 10) (hL : pLoop F A c n)
    (ret : ∀ (pc : Nat) (L : List (Option Value)) (F1 : jF) (A1 : jA), decode cX0_addLoop pc = .ok (.return_, 1) → (∃ n1, pLoop F1 A1 c n1 ∧ Cov A1 n1 a b ∧ (∀ x y, Cov A n x y → Cov A1 n1 x y) ∧ (∀ k, k ≠ 14 → k ≠ 15 → A1 k = A k) ∧ ∀ k, k ≠ 13 → F1 k = F k) → J g (xP w F1 A1) pc L []) :
    ∀ (k l : Nat), l + k = n → (∀ j, j < l → A 14 j ≠ nI a) → J g (xP w F A) 2 [some (.ref (xh w)), some (.int (nI a)), some (.int (nI b)), some (.int (nI l))] [] := by
  have hn10 := hL.2.1
  intro k
  induction k with
  | zero =>
    intro l hl hno
    obtain rfl : l = n := by omega
    refine j_iload_n C dX0_addLoop_2 rfl ?_
    refine j_aload_n C dX0_addLoop_3 rfl ?_
    refine x_get_loops C X dX0_addLoop_4 ?_
    refine j_top (y := nI (l)) (hL.1) ?_
    refine j_icmp_ge C 44 dX0_addLoop_7 (by decide) (fun c_7 => ?_) (fun c_7 => ?_)
    · skip
      have c_7 : l ≤ l := (nI_leI (a := l) (b := l) (by omega) (by omega)).mp c_7
      refine j_aload_n C dX0_addLoop_44 rfl ?_
      refine x_get_from C X dX0_addLoop_45 ?_
      refine j_aload_n C dX0_addLoop_48 rfl ?_
      refine x_get_loops C X dX0_addLoop_49 ?_
      refine j_top (y := nI (l)) (hL.1) ?_
      refine j_iload_n C dX0_addLoop_52 rfl ?_
      obtain ⟨A_1, eA_1⟩ : ∃ Z, va_up A 14 (upd (A 14) (l) (nI (a))) = Z := ⟨_, rfl⟩
      refine x_ast_from (l) C X dX0_addLoop_53 rfl (by omega) eA_1 ?_
      refine j_aload_n C dX0_addLoop_54 rfl ?_
      refine x_get_to C X dX0_addLoop_55 ?_
      refine j_aload_n C dX0_addLoop_58 rfl ?_
      refine x_get_loops C X dX0_addLoop_59 ?_
      refine j_top (y := nI (l)) (hL.1) ?_
      refine j_iload_n C dX0_addLoop_62 rfl ?_
      obtain ⟨A_2, eA_2⟩ : ∃ Z, va_up A_1 15 (upd (A_1 15) (l) (nI (b))) = Z := ⟨_, rfl⟩
      refine x_ast_to (l) C X dX0_addLoop_63 rfl (by omega) eA_2 ?_
      refine j_aload_n C dX0_addLoop_64 rfl ?_
      refine j_dup C dX0_addLoop_65 rfl ?_
      refine x_get_loops C X dX0_addLoop_66 ?_
      refine j_top (y := nI (l)) (hL.1) ?_
      refine j_iconst C (v := nI (1)) dX0_addLoop_69 (by decide) ?_
      refine j_iadd C (v := nI (l + 1)) dX0_addLoop_70 (nI_add _ _) ?_
      obtain ⟨F_3, eF_3⟩ : ∃ Z, upd F 13 (nI (l + 1)) = Z := ⟨_, rfl⟩
      refine x_put_loops C X dX0_addLoop_71 eF_3 ?_
      have hh := pLoop_app (F1 := F_3) (A1 := A_2) hL hno hab hb hc (by rw [← eF_3, pk_us]) (by rw [← eA_2, up_n (by decide), ← eA_1, up_s]) (by rw [← eA_2, up_s, ← eA_1, up_n (by decide)])
      exact ret _ _ _ _ dX0_addLoop_74 ⟨l + 1, hh.1, hh.2.1, hh.2.2, fun k h1 h2 => by rw [← eA_2, up_n h2, ← eA_1, up_n h1], fun k h1 => by rw [← eF_3, pk_un h1]⟩
    · skip
      have c_7 : ¬ l ≤ l := fun hh => c_7 ((nI_leI (a := l) (b := l) (by omega) (by omega)).mpr hh)
      omega
  | succ k ih =>
    intro l hl hno
    obtain ⟨fa, ta, e14, e15, hft, htc⟩ := hL.2.2.1 l (by omega)
    refine j_iload_n C dX0_addLoop_2 rfl ?_
    refine j_aload_n C dX0_addLoop_3 rfl ?_
    refine x_get_loops C X dX0_addLoop_4 ?_
    refine j_top (y := nI (n)) (hL.1) ?_
    refine j_icmp_ge C 44 dX0_addLoop_7 (by decide) (fun c_7 => ?_) (fun c_7 => ?_)
    · skip
      have c_7 : n ≤ l := (nI_leI (a := n) (b := l) (by omega) (by omega)).mp c_7
      omega
    · skip
      have c_7 : ¬ n ≤ l := fun hh => c_7 ((nI_leI (a := n) (b := l) (by omega) (by omega)).mpr hh)
      refine j_aload_n C dX0_addLoop_10 rfl ?_
      refine x_get_from C X dX0_addLoop_11 ?_
      refine j_iload_n C dX0_addLoop_14 rfl ?_
      refine x_ald_from (v := nI (fa)) (l) C X dX0_addLoop_15 rfl (by omega) (e14) ?_
      refine j_iload_n C dX0_addLoop_16 rfl ?_
      refine j_icmp_ne C 38 dX0_addLoop_17 (by decide) (fun c_17 => ?_) (fun c_17 => ?_)
      · skip
        have c_17 : ¬ (fa = a) := fun hh => c_17 ((nI_eq (a := fa) (b := a) (by omega) (by omega)).mpr hh)
        refine j_iinc C (v := nI (l + 1)) (L' := [some (.ref (xh w)), some (.int (nI a)), some (.int (nI b)), some (.int (nI (l + 1)))]) dX0_addLoop_38 rfl (nI_1 _) (Nat.le_of_ble_eq_true rfl) rfl rfl ?_
        refine j_goto C 2 dX0_addLoop_41 (by decide) ?_
        refine ih (l + 1) (by omega) (fun j hj => ?_)
        by_cases hx : j = l
        · subst hx
          rw [e14]
          exact fun e => c_17 (nI_inj (by omega) (by omega) e)
        · exact hno j (by omega)
      · skip
        have c_17 : fa = a := (nI_eq (a := fa) (b := a) (by omega) (by omega)).mp c_17
        refine j_aload_n C dX0_addLoop_20 rfl ?_
        refine x_get_to C X dX0_addLoop_21 ?_
        refine j_iload_n C dX0_addLoop_24 rfl ?_
        refine x_ald_to (v := nI (ta)) (l) C X dX0_addLoop_25 rfl (by omega) (e15) ?_
        refine j_iload_n C dX0_addLoop_26 rfl ?_
        refine j_icmp_ge C 37 dX0_addLoop_27 (by decide) (fun c_27 => ?_) (fun c_27 => ?_)
        · skip
          have c_27 : b ≤ ta := (nI_leI (a := b) (b := ta) (by omega) (by omega)).mp c_27
          exact ret _ _ _ _ dX0_addLoop_37 ⟨n, hL, ⟨l, ta, by omega, by rw [e14, c_17], e15, c_27, by omega⟩, fun _ _ h => h, fun _ _ _ => rfl, fun _ _ => rfl⟩
        · skip
          have c_27 : ¬ b ≤ ta := fun hh => c_27 ((nI_leI (a := b) (b := ta) (by omega) (by omega)).mpr hh)
          refine j_aload_n C dX0_addLoop_30 rfl ?_
          refine x_get_to C X dX0_addLoop_31 ?_
          refine j_iload_n C dX0_addLoop_34 rfl ?_
          refine j_iload_n C dX0_addLoop_35 rfl ?_
          obtain ⟨A_1, eA_1⟩ : ∃ Z, va_up A 15 (upd (A 15) (l) (nI (b))) = Z := ⟨_, rfl⟩
          refine x_ast_to (l) C X dX0_addLoop_36 rfl (by omega) eA_1 ?_
          subst c_17
          have hh := pLoop_up (F1 := F) (A1 := A_1) hL (by omega) e14 e15 (show ta ≤ b by omega) hft hb hc rfl (by rw [← eA_1, up_n (by decide)]) (by rw [← eA_1, up_s])
          exact ret _ _ _ _ dX0_addLoop_37 ⟨n, hh.1, hh.2.1, hh.2.2, fun k h1 h2 => by rw [← eA_1, up_n h2], fun k h1 => rfl⟩
set_option maxHeartbeats 4000000 in
set_option maxRecDepth 100000 in
theorem x_addLoop (F : jF) (A : jA) (a b c n : Nat) (hab : a ≤ b) (hb : b < c) (hc : c ≤ 10) (hL : pLoop F A c n) : xMv yX0_addLoop cX0_addLoop 4 0 [.int (nI a), .int (nI b)] F A (fun F1 A1 => ∃ n1, pLoop F1 A1 c n1 ∧ Cov A1 n1 a b ∧ (∀ x y, Cov A n x y → Cov A1 n1 x y) ∧ (∀ k, k ≠ 14 → k ≠ 15 → A1 k = A k) ∧ ∀ k, k ≠ 13 → F1 k = F k) := by
  refine xMv.intro (fun h => [some (.ref (h)), some (.int (nI a)), some (.int (nI b)), none]) (by decide) rfl (fun _ => rfl) (fun _ => rfl) (fun _ => Nat.le_of_ble_eq_true rfl) ?_
  intro g w C X ret
  show J g (xP w F A) 0 [some (.ref (xh w)), some (.int (nI a)), some (.int (nI b)), none] []
  refine j_iconst C (v := nI (0)) dX0_addLoop_0 (by decide) ?_
  refine j_istore_n C (L' := [some (.ref (xh w)), some (.int (nI a)), some (.int (nI b)), some (.int (nI 0))]) dX0_addLoop_1 (Nat.le_of_ble_eq_true rfl) rfl rfl ?_
  exact x_al_loop C X hab hb hc hL ret n 0 (by omega) (fun j hj => by omega)
/-- the jumps of the block at place p along side k, that go back, have their loops -/
def cvd (A0 A : jA) (c n : Nat) (o : Nat → Nat) (k p : Nat) : Prop := ∀ x q, x < 10 → A0 k (o p) = nI x → q < c → o q = x → q ≤ p → Cov A n q p
def flI (F0 F : jF) (A0 A : jA) (c n : Nat) (o : Nat → Nat) (p : Nat) : Prop := pLoop F A c n ∧ (∀ q, q < p → cvd A0 A c n o 5 q ∧ cvd A0 A c n o 6 q) ∧ (∀ k, k ≠ 14 → k ≠ 15 → A k = A0 k) ∧ ∀ k, k ≠ 13 → F k = F0 k
theorem cvd_mono {A0 A A1 : jA} {c n n1 k p : Nat} {o : Nat → Nat} (h : cvd A0 A c n o k p) (hm : ∀ x y, Cov A n x y → Cov A1 n1 x y) : cvd A0 A1 c n1 o k p := fun x q h1 h2 h3 h4 h5 => hm _ _ (h x q h1 h2 h3 h4 h5)
set_option maxHeartbeats 4000000 in
set_option maxRecDepth 100000 in
theorem x_fl_2 {g : jG} {w : xT} (C : jC g cX0_findLoops 4) (X : xX g w 1) (F0 : jF) (A0 : jA) {c : Nat} {o : Nat → Nat} (hO : pOrd F0 A0 c o) (heo : endOK A0) {p : Nat} (hp : p < c) (kont : ∀ (F : jF) (A : jA) (n : Nat), flI F0 F A0 A c n o (p + 1) → J g (xP w F A) 7 [some (.ref (xh w)), some (.int (nI (p + 1))), none, none] []) (F : jF) (A : jA) (n : Nat) (hI : flI F0 F A0 A c n o p) (h5 : cvd A0 A c n o 5 p) (x1 : Int32) :
    J g (xP w F A) 64 [some (.ref (xh w)), some (.int (nI p)), some (.int x1), some (.int (A0 6 (o p)))] [] := by
  have hc10 := hO.2.1
  have hop := (hO.2.2.2.2.1 p hp).1
  rcases (heo (o p) hop).2.2 with et | ⟨t, ht, et⟩
  · skip
    refine j_iload_n C dX0_findLoops_64 rfl ?_
    refine j_if_lt C 89 dX0_findLoops_65 (by decide) (fun c_65 => ?_) (fun c_65 => ?_)
    · skip
      refine j_iinc C (v := nI (p + 1)) (L' := [some (.ref (xh w)), some (.int (nI (p + 1))), some (.int (x1)), some (.int (A0 6 (o p)))]) dX0_findLoops_89 rfl (nI_1 _) (Nat.le_of_ble_eq_true rfl) rfl rfl ?_
      refine j_goto C 7 dX0_findLoops_92 (by decide) ?_
      refine j_forget [true, true, false, false] rfl rfl ?_
      refine kont F A n ⟨hI.1, fun q hq => ?_, hI.2.2.1, hI.2.2.2⟩
      by_cases hx : q = p
      · subst hx
        exact ⟨h5, fun x r h1 h2 => absurd (h2.symm.trans et) (nI_ne_neg (by omega))⟩
      · exact hI.2.1 q (by omega)
    · skip
      exact absurd (by rw [et]; decide) c_65
  · skip
    obtain ⟨r, hr, er⟩ := hO.2.2.2.2.2.1 p t hp ht (.inr et)
    have eq : A0 10 t = nI r := by rw [← er]; exact (hO.2.2.2.2.1 r hr).2.2
    refine j_iload_n C dX0_findLoops_64 rfl ?_
    refine j_if_lt C 89 dX0_findLoops_65 (by decide) (fun c_65 => ?_) (fun c_65 => ?_)
    · skip
      rw [et] at c_65; exact absurd c_65 (nI_pos (by omega))
    · skip
      refine j_aload_n C dX0_findLoops_68 rfl ?_
      refine x_get_place C X dX0_findLoops_69 ?_
      refine j_iload_n C dX0_findLoops_72 rfl ?_
      refine x_ald_place (v := nI (r)) (t) C X dX0_findLoops_73 et ht (by rw [hI.2.2.1 10 (by decide) (by decide)]; exact eq) ?_
      refine j_iload_n C dX0_findLoops_74 rfl ?_
      refine j_icmp_gt C 89 dX0_findLoops_75 (by decide) (fun c_75 => ?_) (fun c_75 => ?_)
      · skip
        have c_75 : p < r := (nI_ltI (a := p) (b := r) (by omega) (by omega)).mp c_75
        refine j_iinc C (v := nI (p + 1)) (L' := [some (.ref (xh w)), some (.int (nI (p + 1))), some (.int (x1)), some (.int (A0 6 (o p)))]) dX0_findLoops_89 rfl (nI_1 _) (Nat.le_of_ble_eq_true rfl) rfl rfl ?_
        refine j_goto C 7 dX0_findLoops_92 (by decide) ?_
        refine j_forget [true, true, false, false] rfl rfl ?_
        refine kont F A n ⟨hI.1, fun q hq => ?_, hI.2.2.1, hI.2.2.2⟩
        by_cases hx : q = p
        · subst hx
          exact ⟨h5, fun x r h1 h2 h3 h4 h5 => by
            have e1 : x = t := nI_inj (by omega) (by omega) (h2.symm.trans et)
            subst e1
            rw [← h4, (hO.2.2.2.2.1 r h3).2.2] at eq
            have := nI_inj (by omega) (by omega) eq
            omega⟩
        · exact hI.2.1 q (by omega)
      · skip
        have c_75 : ¬ p < r := fun hh => c_75 ((nI_ltI (a := p) (b := r) (by omega) (by omega)).mpr hh)
        refine j_aload_n C dX0_findLoops_78 rfl ?_
        refine j_aload_n C dX0_findLoops_79 rfl ?_
        refine x_get_place C X dX0_findLoops_80 ?_
        refine j_iload_n C dX0_findLoops_83 rfl ?_
        refine x_ald_place (v := nI (r)) (t) C X dX0_findLoops_84 et ht (by rw [hI.2.2.1 10 (by decide) (by decide)]; exact eq) ?_
        refine j_iload_n C dX0_findLoops_85 rfl ?_
        refine x_callv C X (x_addLoop F A r p c n (by omega) hp hc10 hI.1) (lw_V q161 q163 qs4 q18 q164) (n := 2) (by decide +kernel) rfl (by decide) (by decide) dX0_findLoops_86 rfl (Nat.le_of_ble_eq_true rfl) rfl (fun F_2 A_3 hA => ?_)
        refine j_iinc C (v := nI (p + 1)) (L' := [some (.ref (xh w)), some (.int (nI (p + 1))), some (.int (x1)), some (.int (A0 6 (o p)))]) dX0_findLoops_89 rfl (nI_1 _) (Nat.le_of_ble_eq_true rfl) rfl rfl ?_
        refine j_goto C 7 dX0_findLoops_92 (by decide) ?_
        obtain ⟨n1, a1, a2, a3, a4, a5⟩ := hA
        refine j_forget [true, true, false, false] rfl rfl ?_
        refine kont F_2 A_3 n1 ⟨a1, fun q hq => ?_, fun k h1 h2 => (a4 k h1 h2).trans (hI.2.2.1 k h1 h2), fun k h1 => (a5 k h1).trans (hI.2.2.2 k h1)⟩
        by_cases hx : q = p
        · subst hx
          exact ⟨cvd_mono h5 a3, fun x r h1 h2 h3 h4 h5 => by
            have e1 : x = t := nI_inj (by omega) (by omega) (h2.symm.trans et)
            subst e1
            rw [← h4, (hO.2.2.2.2.1 r h3).2.2] at eq
            have e2 := nI_inj (by omega) (by omega) eq
            rw [e2]
            exact a2⟩
        · exact ⟨cvd_mono (hI.2.1 q (by omega)).1 a3, cvd_mono (hI.2.1 q (by omega)).2 a3⟩
set_option maxHeartbeats 4000000 in
set_option maxRecDepth 100000 in
theorem x_fl_loop {g : jG} {w : xT} (C : jC g cX0_findLoops 4) (X : xX g w 1) (F0 : jF) (A0 : jA) {c : Nat} {o : Nat → Nat} (hO : pOrd F0 A0 c o) (heo : endOK A0) (hend : ∀ (F : jF) (A : jA) (n : Nat), flI F0 F A0 A c n o c → J g (xP w F A) 95 [some (.ref (xh w)), some (.int (nI c)), none, none] []) :
    ∀ (k p : Nat) (F : jF) (A : jA) (n : Nat), p + k = c → flI F0 F A0 A c n o p → J g (xP w F A) 7 [some (.ref (xh w)), some (.int (nI p)), none, none] [] := by
  have hc10 := hO.2.1
  intro k
  induction k with
  | zero =>
    intro p F A n hp hI
    obtain rfl : p = c := by omega
    have e8 : F 8 = nI p := by rw [hI.2.2.2 8 (by decide)]; exact hO.2.2.1
    refine j_iload_n C dX0_findLoops_7 rfl ?_
    refine j_aload_n C dX0_findLoops_8 rfl ?_
    refine x_get_count C X dX0_findLoops_9 ?_
    refine j_top (y := nI (p)) (e8) ?_
    refine j_icmp_ge C 95 dX0_findLoops_12 (by decide) (fun c_12 => ?_) (fun c_12 => ?_)
    · skip
      have c_12 : p ≤ p := (nI_leI (a := p) (b := p) (by omega) (by omega)).mp c_12
      exact hend F A n hI
    · skip
      have c_12 : ¬ p ≤ p := fun hh => c_12 ((nI_leI (a := p) (b := p) (by omega) (by omega)).mpr hh)
      omega
  | succ k ih =>
    intro p F A n hp hI
    have hp2 : p < c := by omega
    have e8 : F 8 = nI c := by rw [hI.2.2.2 8 (by decide)]; exact hO.2.2.1
    have hop := (hO.2.2.2.2.1 p hp2).1
    have e9 : A 9 p = nI (o p) := by rw [hI.2.2.1 9 (by decide) (by decide)]; exact (hO.2.2.2.2.1 p hp2).2.1
    have kont : ∀ (F : jF) (A : jA) (n : Nat), flI F0 F A0 A c n o (p + 1) → J g (xP w F A) 7 [some (.ref (xh w)), some (.int (nI (p + 1))), none, none] [] := fun F A n h => ih (p + 1) F A n (by omega) h
    refine j_iload_n C dX0_findLoops_7 rfl ?_
    refine j_aload_n C dX0_findLoops_8 rfl ?_
    refine x_get_count C X dX0_findLoops_9 ?_
    refine j_top (y := nI (c)) (e8) ?_
    refine j_icmp_ge C 95 dX0_findLoops_12 (by decide) (fun c_12 => ?_) (fun c_12 => ?_)
    · skip
      have c_12 : c ≤ p := (nI_leI (a := c) (b := p) (by omega) (by omega)).mp c_12
      omega
    · skip
      have c_12 : ¬ c ≤ p := fun hh => c_12 ((nI_leI (a := c) (b := p) (by omega) (by omega)).mpr hh)
      refine j_aload_n C dX0_findLoops_15 rfl ?_
      refine x_get_first C X dX0_findLoops_16 ?_
      refine j_aload_n C dX0_findLoops_19 rfl ?_
      refine x_get_order C X dX0_findLoops_20 ?_
      refine j_iload_n C dX0_findLoops_23 rfl ?_
      refine x_ald_order (v := nI (o p)) (p) C X dX0_findLoops_24 rfl (by omega) (e9) ?_
      refine x_ald_first (v := A0 5 (o p)) (o p) C X dX0_findLoops_25 rfl (by omega) (by rw [hI.2.2.1 5 (by decide) (by decide)]) ?_
      refine j_istore_n C (L' := [some (.ref (xh w)), some (.int (nI p)), some (.int (A0 5 (o p))), none]) dX0_findLoops_26 (Nat.le_of_ble_eq_true rfl) rfl rfl ?_
      refine j_aload_n C dX0_findLoops_27 rfl ?_
      refine x_get_second C X dX0_findLoops_28 ?_
      refine j_aload_n C dX0_findLoops_31 rfl ?_
      refine x_get_order C X dX0_findLoops_32 ?_
      refine j_iload_n C dX0_findLoops_35 rfl ?_
      refine x_ald_order (v := nI (o p)) (p) C X dX0_findLoops_36 rfl (by omega) (e9) ?_
      refine x_ald_second (v := A0 6 (o p)) (o p) C X dX0_findLoops_37 rfl (by omega) (by rw [hI.2.2.1 6 (by decide) (by decide)]) ?_
      refine j_istore_n C (L' := [some (.ref (xh w)), some (.int (nI p)), some (.int (A0 5 (o p))), some (.int (A0 6 (o p)))]) dX0_findLoops_38 (Nat.le_of_ble_eq_true rfl) rfl rfl ?_
      rcases (heo (o p) hop).2.1 with et | ⟨t, ht, et⟩
      · skip
        refine j_iload_n C dX0_findLoops_39 rfl ?_
        refine j_if_lt C 64 dX0_findLoops_40 (by decide) (fun c_40 => ?_) (fun c_40 => ?_)
        · skip
          exact x_fl_2 C X F0 A0 hO heo hp2 kont F A n hI (fun x r h1 h2 => absurd (h2.symm.trans et) (nI_ne_neg (by omega))) _
        · skip
          exact absurd (by rw [et]; decide) c_40
      · skip
        obtain ⟨r, hr, er⟩ := hO.2.2.2.2.2.1 p t hp2 ht (.inl et)
        have eq : A0 10 t = nI r := by rw [← er]; exact (hO.2.2.2.2.1 r hr).2.2
        refine j_iload_n C dX0_findLoops_39 rfl ?_
        refine j_if_lt C 64 dX0_findLoops_40 (by decide) (fun c_40 => ?_) (fun c_40 => ?_)
        · skip
          rw [et] at c_40; exact absurd c_40 (nI_pos (by omega))
        · skip
          refine j_aload_n C dX0_findLoops_43 rfl ?_
          refine x_get_place C X dX0_findLoops_44 ?_
          refine j_iload_n C dX0_findLoops_47 rfl ?_
          refine x_ald_place (v := nI (r)) (t) C X dX0_findLoops_48 et ht (by rw [hI.2.2.1 10 (by decide) (by decide)]; exact eq) ?_
          refine j_iload_n C dX0_findLoops_49 rfl ?_
          refine j_icmp_gt C 64 dX0_findLoops_50 (by decide) (fun c_50 => ?_) (fun c_50 => ?_)
          · skip
            have c_50 : p < r := (nI_ltI (a := p) (b := r) (by omega) (by omega)).mp c_50
            exact x_fl_2 C X F0 A0 hO heo hp2 kont F A n hI (fun x r h1 h2 h3 h4 h5 => by
              have e1 : x = t := nI_inj (by omega) (by omega) (h2.symm.trans et)
              subst e1
              rw [← h4, (hO.2.2.2.2.1 r h3).2.2] at eq
              have := nI_inj (by omega) (by omega) eq
              omega) _
          · skip
            have c_50 : ¬ p < r := fun hh => c_50 ((nI_ltI (a := p) (b := r) (by omega) (by omega)).mpr hh)
            refine j_aload_n C dX0_findLoops_53 rfl ?_
            refine j_aload_n C dX0_findLoops_54 rfl ?_
            refine x_get_place C X dX0_findLoops_55 ?_
            refine j_iload_n C dX0_findLoops_58 rfl ?_
            refine x_ald_place (v := nI (r)) (t) C X dX0_findLoops_59 et ht (by rw [hI.2.2.1 10 (by decide) (by decide)]; exact eq) ?_
            refine j_iload_n C dX0_findLoops_60 rfl ?_
            refine x_callv C X (x_addLoop F A r p c n (by omega) hp2 hc10 hI.1) (lw_V q161 q163 qs4 q18 q164) (n := 2) (by decide +kernel) rfl (by decide) (by decide) dX0_findLoops_61 rfl (Nat.le_of_ble_eq_true rfl) rfl (fun F_2 A_3 hA => ?_)
            obtain ⟨n1, a1, a2, a3, a4, a5⟩ := hA
            exact x_fl_2 C X F0 A0 hO heo hp2 kont F_2 A_3 n1 ⟨a1, fun q hq => ⟨cvd_mono (hI.2.1 q hq).1 a3, cvd_mono (hI.2.1 q hq).2 a3⟩, fun k h1 h2 => (a4 k h1 h2).trans (hI.2.2.1 k h1 h2), fun k h1 => (a5 k h1).trans (hI.2.2.2 k h1)⟩ (fun x r h1 h2 h3 h4 h5 => by
              have e1 : x = t := nI_inj (by omega) (by omega) (h2.symm.trans et)
              subst e1
              rw [← h4, (hO.2.2.2.2.1 r h3).2.2] at eq
              have e2 := nI_inj (by omega) (by omega) eq
              rw [e2]
              exact a2) _
set_option maxHeartbeats 4000000 in
set_option maxRecDepth 100000 in
theorem x_findLoops (F : jF) (A : jA) (c : Nat) (o : Nat → Nat) (hO : pOrd F A c o) (heo : endOK A) : xMv yX0_findLoops cX0_findLoops 4 1 [] F A (fun F1 A1 => ∃ n, pLoop F1 A1 c n ∧ pBack A1 c n o ∧ (∀ k, k ≠ 14 → k ≠ 15 → A1 k = A k) ∧ ∀ k, k ≠ 13 → F1 k = F k) := by
  refine xMv.intro (fun h => [some (.ref (h)), none, none, none]) (by decide) rfl (fun _ => rfl) (fun _ => rfl) (fun _ => Nat.le_of_ble_eq_true rfl) ?_
  intro g w C X ret
  show J g (xP w F A) 0 [some (.ref (xh w)), none, none, none] []
  refine j_aload_n C dX0_findLoops_0 rfl ?_
  refine j_iconst C (v := nI (0)) dX0_findLoops_1 (by decide) ?_
  obtain ⟨F_1, eF_1⟩ : ∃ Z, upd F 13 (nI (0)) = Z := ⟨_, rfl⟩
  refine x_put_loops C X dX0_findLoops_2 eF_1 ?_
  refine j_iconst C (v := nI (0)) dX0_findLoops_5 (by decide) ?_
  refine j_istore_n C (L' := [some (.ref (xh w)), some (.int (nI 0)), none, none]) dX0_findLoops_6 (Nat.le_of_ble_eq_true rfl) rfl rfl ?_
  have hO1 : pOrd F_1 A c o := by
    obtain ⟨a1, a2, a3, a4⟩ := hO
    exact ⟨a1, a2, by rw [← eF_1, pk_un (by decide)]; exact a3, a4⟩
  refine x_fl_loop C X F_1 A hO1 heo (fun F1 A1 n hI => ?_) c 0 F_1 A 0 (by omega) ⟨⟨by rw [← eF_1, pk_us], by omega, fun l hl => by omega, fun l k hl => by omega⟩, fun q hq => by omega, fun _ _ _ => rfl, fun _ _ => rfl⟩
  refine ret _ _ _ _ dX0_findLoops_95 ⟨n, hI.1, fun p x q hp hx hor hq he hle => ?_, hI.2.2.1, fun k hk => by rw [hI.2.2.2 k hk, ← eF_1, pk_un hk]⟩
  rw [hI.2.2.1 5 (by decide) (by decide), hI.2.2.1 6 (by decide) (by decide)] at hor
  rcases hor with h | h
  · exact (hI.2.1 p hp).1 x q hx h hq he hle
  · exact (hI.2.1 p hp).2 x q hx h hq he hle
def wdI (A0 A : jA) (n : Nat) : Prop := (∀ x y, Cov A0 n x y → Cov A n x y) ∧ ∀ k, k ≠ 15 → A k = A0 k
set_option maxHeartbeats 4000000 in
set_option maxRecDepth 100000 in
theorem x_wd_in {g : jG} {w : xT} {F : jF} (C : jC g cX0_widenOnce 4) (X : xX g w 0) (A0 : jA) {c n : Nat} (hc : c ≤ 10) {a : Nat} (ha : a < n) (hend : ∀ (A : jA) (v : Int32), (v = nI 0 ∨ v = nI 1) → pLoop F A c n → wdI A0 A n → J g (xP w F A) 87 [some (.ref (xh w)), some (.int (v)), some (.int (nI a)), some (.int (nI n))] []) :
    ∀ (k b : Nat) (A : jA) (v : Int32), b + k = n → (v = nI 0 ∨ v = nI 1) → pLoop F A c n → wdI A0 A n → J g (xP w F A) 14 [some (.ref (xh w)), some (.int (v)), some (.int (nI a)), some (.int (nI b))] [] := by
  intro k
  induction k with
  | zero =>
    intro b A v hb hv hL hI
    have hn10 := hL.2.1
    obtain rfl : b = n := by omega
    refine j_iload_n C dX0_widenOnce_14 rfl ?_
    refine j_aload_n C dX0_widenOnce_15 rfl ?_
    refine x_get_loops C X dX0_widenOnce_16 ?_
    refine j_top (y := nI (b)) (hL.1) ?_
    refine j_icmp_ge C 87 dX0_widenOnce_19 (by decide) (fun c_19 => ?_) (fun c_19 => ?_)
    · skip
      have c_19 : b ≤ b := (nI_leI (a := b) (b := b) (by omega) (by omega)).mp c_19
      exact hend A v hv hL hI
    · skip
      have c_19 : ¬ b ≤ b := fun hh => c_19 ((nI_leI (a := b) (b := b) (by omega) (by omega)).mpr hh)
      omega
  | succ k ih =>
    intro b A v hb hv hL hI
    have hn10 := hL.2.1
    obtain ⟨fa, ta, ea, eta, hfa, hta⟩ := hL.2.2.1 a ha
    obtain ⟨fb, tb, eb, etb, hfb, htb⟩ := hL.2.2.1 b (by omega)
    refine j_iload_n C dX0_widenOnce_14 rfl ?_
    refine j_aload_n C dX0_widenOnce_15 rfl ?_
    refine x_get_loops C X dX0_widenOnce_16 ?_
    refine j_top (y := nI (n)) (hL.1) ?_
    refine j_icmp_ge C 87 dX0_widenOnce_19 (by decide) (fun c_19 => ?_) (fun c_19 => ?_)
    · skip
      have c_19 : n ≤ b := (nI_leI (a := n) (b := b) (by omega) (by omega)).mp c_19
      omega
    · skip
      have c_19 : ¬ n ≤ b := fun hh => c_19 ((nI_leI (a := n) (b := b) (by omega) (by omega)).mpr hh)
      refine j_aload_n C dX0_widenOnce_22 rfl ?_
      refine x_get_from C X dX0_widenOnce_23 ?_
      refine j_iload_n C dX0_widenOnce_26 rfl ?_
      refine x_ald_from (v := nI (fa)) (a) C X dX0_widenOnce_27 rfl (by omega) (ea) ?_
      refine j_aload_n C dX0_widenOnce_28 rfl ?_
      refine x_get_from C X dX0_widenOnce_29 ?_
      refine j_iload_n C dX0_widenOnce_32 rfl ?_
      refine x_ald_from (v := nI (fb)) (b) C X dX0_widenOnce_33 rfl (by omega) (eb) ?_
      refine j_icmp_ge C 81 dX0_widenOnce_34 (by decide) (fun c_34 => ?_) (fun c_34 => ?_)
      · skip
        have c_34 : fb ≤ fa := (nI_leI (a := fb) (b := fa) (by omega) (by omega)).mp c_34
        refine j_iinc C (v := nI (b + 1)) (L' := [some (.ref (xh w)), some (.int (v)), some (.int (nI a)), some (.int (nI (b + 1)))]) dX0_widenOnce_81 rfl (nI_1 _) (Nat.le_of_ble_eq_true rfl) rfl rfl ?_
        refine j_goto C 14 dX0_widenOnce_84 (by decide) ?_
        exact ih (b + 1) A v (by omega) hv hL hI
      · skip
        have c_34 : ¬ fb ≤ fa := fun hh => c_34 ((nI_leI (a := fb) (b := fa) (by omega) (by omega)).mpr hh)
        refine j_aload_n C dX0_widenOnce_37 rfl ?_
        refine x_get_from C X dX0_widenOnce_38 ?_
        refine j_iload_n C dX0_widenOnce_41 rfl ?_
        refine x_ald_from (v := nI (fb)) (b) C X dX0_widenOnce_42 rfl (by omega) (eb) ?_
        refine j_aload_n C dX0_widenOnce_43 rfl ?_
        refine x_get_to C X dX0_widenOnce_44 ?_
        refine j_iload_n C dX0_widenOnce_47 rfl ?_
        refine x_ald_to (v := nI (ta)) (a) C X dX0_widenOnce_48 rfl (by omega) (eta) ?_
        refine j_icmp_gt C 81 dX0_widenOnce_49 (by decide) (fun c_49 => ?_) (fun c_49 => ?_)
        · skip
          have c_49 : ta < fb := (nI_ltI (a := ta) (b := fb) (by omega) (by omega)).mp c_49
          refine j_iinc C (v := nI (b + 1)) (L' := [some (.ref (xh w)), some (.int (v)), some (.int (nI a)), some (.int (nI (b + 1)))]) dX0_widenOnce_81 rfl (nI_1 _) (Nat.le_of_ble_eq_true rfl) rfl rfl ?_
          refine j_goto C 14 dX0_widenOnce_84 (by decide) ?_
          exact ih (b + 1) A v (by omega) hv hL hI
        · skip
          have c_49 : ¬ ta < fb := fun hh => c_49 ((nI_ltI (a := ta) (b := fb) (by omega) (by omega)).mpr hh)
          refine j_aload_n C dX0_widenOnce_52 rfl ?_
          refine x_get_to C X dX0_widenOnce_53 ?_
          refine j_iload_n C dX0_widenOnce_56 rfl ?_
          refine x_ald_to (v := nI (ta)) (a) C X dX0_widenOnce_57 rfl (by omega) (eta) ?_
          refine j_aload_n C dX0_widenOnce_58 rfl ?_
          refine x_get_to C X dX0_widenOnce_59 ?_
          refine j_iload_n C dX0_widenOnce_62 rfl ?_
          refine x_ald_to (v := nI (tb)) (b) C X dX0_widenOnce_63 rfl (by omega) (etb) ?_
          refine j_icmp_ge C 81 dX0_widenOnce_64 (by decide) (fun c_64 => ?_) (fun c_64 => ?_)
          · skip
            have c_64 : tb ≤ ta := (nI_leI (a := tb) (b := ta) (by omega) (by omega)).mp c_64
            refine j_iinc C (v := nI (b + 1)) (L' := [some (.ref (xh w)), some (.int (v)), some (.int (nI a)), some (.int (nI (b + 1)))]) dX0_widenOnce_81 rfl (nI_1 _) (Nat.le_of_ble_eq_true rfl) rfl rfl ?_
            refine j_goto C 14 dX0_widenOnce_84 (by decide) ?_
            exact ih (b + 1) A v (by omega) hv hL hI
          · skip
            have c_64 : ¬ tb ≤ ta := fun hh => c_64 ((nI_leI (a := tb) (b := ta) (by omega) (by omega)).mpr hh)
            refine j_aload_n C dX0_widenOnce_67 rfl ?_
            refine x_get_to C X dX0_widenOnce_68 ?_
            refine j_iload_n C dX0_widenOnce_71 rfl ?_
            refine j_aload_n C dX0_widenOnce_72 rfl ?_
            refine x_get_to C X dX0_widenOnce_73 ?_
            refine j_iload_n C dX0_widenOnce_76 rfl ?_
            refine x_ald_to (v := nI (tb)) (b) C X dX0_widenOnce_77 rfl (by omega) (etb) ?_
            obtain ⟨A_1, eA_1⟩ : ∃ Z, va_up A 15 (upd (A 15) (a) (nI (tb))) = Z := ⟨_, rfl⟩
            refine x_ast_to (a) C X dX0_widenOnce_78 rfl (by omega) eA_1 ?_
            refine j_iconst C (v := nI (1)) dX0_widenOnce_79 (by decide) ?_
            refine j_istore_n C (L' := [some (.ref (xh w)), some (.int (nI 1)), some (.int (nI a)), some (.int (nI b))]) dX0_widenOnce_80 (Nat.le_of_ble_eq_true rfl) rfl rfl ?_
            refine j_iinc C (v := nI (b + 1)) (L' := [some (.ref (xh w)), some (.int (nI 1)), some (.int (nI a)), some (.int (nI (b + 1)))]) dX0_widenOnce_81 rfl (nI_1 _) (Nat.le_of_ble_eq_true rfl) rfl rfl ?_
            refine j_goto C 14 dX0_widenOnce_84 (by decide) ?_
            have hh := pLoop_up (F1 := F) (A1 := A_1) hL ha ea eta (show ta ≤ tb by omega) hfa htb hc rfl (by rw [← eA_1, up_n (by decide)]) (by rw [← eA_1, up_s])
            exact ih (b + 1) A_1 (nI 1) (by omega) (.inr rfl) hh.1 ⟨fun x y h => hh.2.2 x y (hI.1 x y h), fun k hk => by rw [← eA_1, up_n hk]; exact hI.2 k hk⟩
set_option maxHeartbeats 4000000 in
set_option maxRecDepth 100000 in
theorem x_wd_out {g : jG} {w : xT} {F : jF} (C : jC g cX0_widenOnce 4) (X : xX g w 0) (A0 : jA) {c n : Nat} (hc : c ≤ 10) (hend : ∀ (A : jA) (v : Int32) (x3 : Option Value), (v = nI 0 ∨ v = nI 1) → pLoop F A c n → wdI A0 A n → J g (xP w F A) 93 [some (.ref (xh w)), some (.int v), some (.int (nI n)), none] []) :
    ∀ (k a : Nat) (A : jA) (v : Int32), a + k = n → (v = nI 0 ∨ v = nI 1) → pLoop F A c n → wdI A0 A n → J g (xP w F A) 4 [some (.ref (xh w)), some (.int v), some (.int (nI a)), none] [] := by
  intro k
  induction k with
  | zero =>
    intro a A v ha hv hL hI
    have hn10 := hL.2.1
    obtain rfl : a = n := by omega
    refine j_iload_n C dX0_widenOnce_4 rfl ?_
    refine j_aload_n C dX0_widenOnce_5 rfl ?_
    refine x_get_loops C X dX0_widenOnce_6 ?_
    refine j_top (y := nI (a)) (hL.1) ?_
    refine j_icmp_ge C 93 dX0_widenOnce_9 (by decide) (fun c_9 => ?_) (fun c_9 => ?_)
    · skip
      have c_9 : a ≤ a := (nI_leI (a := a) (b := a) (by omega) (by omega)).mp c_9
      exact hend A v none hv hL hI
    · skip
      have c_9 : ¬ a ≤ a := fun hh => c_9 ((nI_leI (a := a) (b := a) (by omega) (by omega)).mpr hh)
      omega
  | succ k ih =>
    intro a A v ha hv hL hI
    have hn10 := hL.2.1
    refine j_iload_n C dX0_widenOnce_4 rfl ?_
    refine j_aload_n C dX0_widenOnce_5 rfl ?_
    refine x_get_loops C X dX0_widenOnce_6 ?_
    refine j_top (y := nI (n)) (hL.1) ?_
    refine j_icmp_ge C 93 dX0_widenOnce_9 (by decide) (fun c_9 => ?_) (fun c_9 => ?_)
    · skip
      have c_9 : n ≤ a := (nI_leI (a := n) (b := a) (by omega) (by omega)).mp c_9
      omega
    · skip
      have c_9 : ¬ n ≤ a := fun hh => c_9 ((nI_leI (a := n) (b := a) (by omega) (by omega)).mpr hh)
      refine j_iconst C (v := nI (0)) dX0_widenOnce_12 (by decide) ?_
      refine j_istore_n C (L' := [some (.ref (xh w)), some (.int (v)), some (.int (nI a)), some (.int (nI 0))]) dX0_widenOnce_13 (Nat.le_of_ble_eq_true rfl) rfl rfl ?_
      refine x_wd_in C X A0 hc (show a < n by omega) (fun A v hv hL hI => ?_) n 0 A v (by omega) hv hL hI
      refine j_iinc C (v := nI (a + 1)) (L' := [some (.ref (xh w)), some (.int (v)), some (.int (nI (a + 1))), some (.int (nI n))]) dX0_widenOnce_87 rfl (nI_1 _) (Nat.le_of_ble_eq_true rfl) rfl rfl ?_
      refine j_goto C 4 dX0_widenOnce_90 (by decide) ?_
      refine j_forget [true, true, true, false] rfl rfl ?_
      exact ih (a + 1) A v (by omega) hv hL hI
set_option maxHeartbeats 4000000 in
set_option maxRecDepth 100000 in
theorem x_widenOnce (F : jF) (A : jA) (c n : Nat) (hc : c ≤ 10) (hL : pLoop F A c n) : xMi yX0_widenOnce cX0_widenOnce 4 .boolean 0 [] F A (fun r F1 A1 => F1 = F ∧ pLoop F A1 c n ∧ (∀ x y, Cov A n x y → Cov A1 n x y) ∧ ∀ k, k ≠ 15 → A1 k = A k) := by
  refine xMi.intro (fun h => [some (.ref (h)), none, none, none]) (by decide) rfl (fun _ => rfl) (fun _ => rfl) (fun _ => Nat.le_of_ble_eq_true rfl) ?_
  intro g w C X ret
  show J g (xP w F A) 0 [some (.ref (xh w)), none, none, none] []
  refine j_iconst C (v := nI (0)) dX0_widenOnce_0 (by decide) ?_
  refine j_istore_n C (L' := [some (.ref (xh w)), some (.int (nI 0)), none, none]) dX0_widenOnce_1 (Nat.le_of_ble_eq_true rfl) rfl rfl ?_
  refine j_iconst C (v := nI (0)) dX0_widenOnce_2 (by decide) ?_
  refine j_istore_n C (L' := [some (.ref (xh w)), some (.int (nI 0)), some (.int (nI 0)), none]) dX0_widenOnce_3 (Nat.le_of_ble_eq_true rfl) rfl rfl ?_
  refine x_wd_out C X A hc (fun A1 v _ hv hL1 hI => ?_) n 0 A (nI 0) (by omega) (.inl rfl) hL ⟨fun _ _ h => h, fun _ _ => rfl⟩
  refine j_iload_n C dX0_widenOnce_93 rfl ?_
  exact ret _ _ _ _ _ dX0_widenOnce_94 (by rcases hv with rfl | rfl <;> rfl) ⟨rfl, hL1, hI.1, hI.2⟩
end
section
/-! the words that are written: pc blocks so far, the loops in EL begun, those in ER ended -/
def eI (F : jF) (A : jA) (n : Nat) (f t : Nat → Nat) (pc : Nat) (EL ER : Nat → Bool) (len : Nat) (cp : Nat → Nat) : Prop :=
  F 16 = nI len ∧ len = pc + cnt EL n + cnt ER n ∧ (∀ p, p < pc → cp p < len ∧ A 17 (cp p) = nI 1 ∧ A 18 (cp p) = nI p) ∧ (∀ p q, p < q → q < pc → cp p < cp q) ∧
  (∀ i, i < len → A 17 i = nI 0 ∨ (A 17 i = nI 1 ∧ ∃ p, p < pc ∧ A 18 i = nI p ∧ cp p = i) ∨ (A 17 i = nI 2 ∧ ∃ l, l < n ∧ A 18 i = nI l ∧ t l < pc ∧ cp (t l) < i)) ∧
  (∀ l, l < n → ER l = true → ∃ i, i < len ∧ A 17 i = nI 2 ∧ A 18 i = nI l ∧ t l < pc ∧ cp (t l) < i) ∧ ∀ l, l < n → EL l = true → ∃ q, A 19 l = nI q ∧ q + 1 ≤ len ∧ (f l < pc → q + 1 ≤ cp (f l))
section EM
variable {F F1 : jF} {A A1 : jA} {n pc len l : Nat} {f t cp : Nat → Nat} {EL ER E1 : Nat → Bool}
theorem eI_len (h : eI F A n f t pc EL ER len cp) (hp : pc ≤ 10) (hn : n ≤ 10) : len ≤ 30 := by
  have h1 := cnt_le EL n
  have h2 := cnt_le ER n
  have h3 := h.2.1
  omega
theorem eI_congr {EL1 ER1 : Nat → Bool} (h : eI F A n f t pc EL ER len cp) (hL : ∀ l, l < n → EL1 l = EL l) (hR : ∀ l, l < n → ER1 l = ER l) : eI F A n f t pc EL1 ER1 len cp := by
  obtain ⟨h1, h2, h3, h4, h5, h6, h7⟩ := h
  exact ⟨h1, by rw [cnt_congr n hL, cnt_congr n hR]; exact h2, h3, h4, h5, fun l hl e => h6 l hl ((hR l hl).symm.trans e), fun l hl e => h7 l hl ((hL l hl).symm.trans e)⟩
theorem eI_loop (h : eI F A n f t pc EL ER len cp) (hl : l < n) (hfl : f l = pc) (hE : EL l = false) (hE1 : E1 l = true) (hEo : ∀ k, k < n → k ≠ l → E1 k = EL k) (hF : F1 16 = nI (len + 1)) (h17 : A1 17 = upd (A 17) len (nI 0)) (h18 : A1 18 = upd (A 18) len (nI l)) (h19 : A1 19 = upd (A 19) l (nI len)) : eI F1 A1 n f t pc E1 ER (len + 1) cp := by
  obtain ⟨q1, q2, q3, q4, q5, q6, q7⟩ := h
  have k17 : ∀ i, i < len → A1 17 i = A 17 i := fun i hi => by rw [h17, pk_un (by omega)]
  have k18 : ∀ i, i < len → A1 18 i = A 18 i := fun i hi => by rw [h18, pk_un (by omega)]
  refine ⟨hF, by rw [cnt_add hE hE1 n hEo hl]; omega, fun p hp => ?_, q4, fun i hi => ?_, fun k hk he => ?_, fun k hk he => ?_⟩
  · have := q3 p hp
    rw [k17 _ this.1, k18 _ this.1]
    exact ⟨by omega, this.2⟩
  · by_cases hx : i = len
    · subst hx
      exact .inl (by rw [h17, pk_us])
    · rw [k17 i (by omega), k18 i (by omega)]
      exact q5 i (by omega)
  · obtain ⟨i, hi, h1⟩ := q6 k hk he
    exact ⟨i, by omega, by rw [k17 i hi, k18 i hi]; exact h1⟩
  · by_cases hx : k = l
    · subst hx
      exact ⟨len, by rw [h19, pk_us], by omega, fun h => by omega⟩
    · rw [h19, pk_un hx]
      obtain ⟨q, h1, h2, h3⟩ := q7 k hk ((hEo k hk hx).symm.trans he)
      exact ⟨q, h1, by omega, h3⟩
theorem eI_rep (h : eI F A n f t pc EL ER len cp) (hl : l < n) (htl : t l < pc) (hE : ER l = false) (hE1 : E1 l = true) (hEo : ∀ k, k < n → k ≠ l → E1 k = ER k) (hF : F1 16 = nI (len + 1)) (h17 : A1 17 = upd (A 17) len (nI 2)) (h18 : A1 18 = upd (A 18) len (nI l)) (h19 : A1 19 = A 19) : eI F1 A1 n f t pc EL E1 (len + 1) cp := by
  obtain ⟨q1, q2, q3, q4, q5, q6, q7⟩ := h
  have k17 : ∀ i, i < len → A1 17 i = A 17 i := fun i hi => by rw [h17, pk_un (by omega)]
  have k18 : ∀ i, i < len → A1 18 i = A 18 i := fun i hi => by rw [h18, pk_un (by omega)]
  have hcl := (q3 (t l) htl).1
  refine ⟨hF, by rw [cnt_add hE hE1 n hEo hl]; omega, fun p hp => ?_, q4, fun i hi => ?_, fun k hk he => ?_, fun k hk he => ?_⟩
  · have := q3 p hp
    rw [k17 _ this.1, k18 _ this.1]
    exact ⟨by omega, this.2⟩
  · by_cases hx : i = len
    · subst hx
      exact .inr (.inr ⟨by rw [h17, pk_us], l, hl, by rw [h18, pk_us], htl, hcl⟩)
    · rw [k17 i (by omega), k18 i (by omega)]
      exact q5 i (by omega)
  · by_cases hx : k = l
    · subst hx
      exact ⟨len, by omega, by rw [h17, pk_us], by rw [h18, pk_us], htl, hcl⟩
    · obtain ⟨i, hi, h1⟩ := q6 k hk ((hEo k hk hx).symm.trans he)
      exact ⟨i, by omega, by rw [k17 i hi, k18 i hi]; exact h1⟩
  · rw [h19]
    obtain ⟨q, h1, h2, h3⟩ := q7 k hk he
    exact ⟨q, h1, by omega, h3⟩
theorem eI_code (h : eI F A n f t pc EL ER len cp) (hF : F1 16 = nI (len + 1)) (h17 : A1 17 = upd (A 17) len (nI 1)) (h18 : A1 18 = upd (A 18) len (nI pc)) (h19 : A1 19 = A 19) : eI F1 A1 n f t (pc + 1) EL ER (len + 1) (va_up cp pc len) := by
  obtain ⟨q1, q2, q3, q4, q5, q6, q7⟩ := h
  have k17 : ∀ i, i < len → A1 17 i = A 17 i := fun i hi => by rw [h17, pk_un (by omega)]
  have k18 : ∀ i, i < len → A1 18 i = A 18 i := fun i hi => by rw [h18, pk_un (by omega)]
  refine ⟨hF, by omega, fun p hp => ?_, fun p q hpq hq => ?_, fun i hi => ?_, fun k hk he => ?_, fun k hk he => ?_⟩
  · by_cases hx : p = pc
    · subst hx
      rw [up_s, h17, h18, pk_us, pk_us]
      exact ⟨by omega, rfl, rfl⟩
    · rw [up_n hx]
      have := q3 p (by omega)
      rw [k17 _ this.1, k18 _ this.1]
      exact ⟨by omega, this.2⟩
  · rw [up_n (show p ≠ pc by omega)]
    by_cases hx : q = pc
    · subst hx
      rw [up_s]
      exact (q3 p (by omega)).1
    · rw [up_n hx]
      exact q4 p q hpq (by omega)
  · by_cases hx : i = len
    · subst hx
      exact .inr (.inl ⟨by rw [h17, pk_us], pc, by omega, by rw [h18, pk_us], up_s⟩)
    · rw [k17 i (by omega), k18 i (by omega)]
      rcases q5 i (by omega) with h | ⟨h, p, hp, h1, h2⟩ | ⟨h, l, hl, h1, h2, h3⟩
      · exact .inl h
      · exact .inr (.inl ⟨h, p, by omega, h1, by rw [up_n (by omega)]; exact h2⟩)
      · exact .inr (.inr ⟨h, l, hl, h1, by omega, by rw [up_n (by omega)]; exact h3⟩)
  · obtain ⟨i, hi, h1, h2, h3, h4⟩ := q6 k hk he
    exact ⟨i, by omega, by rw [k17 i hi]; exact h1, by rw [k18 i hi]; exact h2, by omega, by rw [up_n (by omega)]; exact h4⟩
  · rw [h19]
    obtain ⟨q, h1, h2, h3⟩ := q7 k hk he
    refine ⟨q, h1, by omega, fun h => ?_⟩
    by_cases hx : f k = pc
    · rw [hx, up_s]
      exact h2
    · rw [up_n hx]
      exact h3 (by omega)
end EM
def eS (F0 : jF) (A0 : jA) (F : jF) (A : jA) (n : Nat) (f t : Nat → Nat) (pc : Nat) (EL ER : Nat → Bool) : Prop := (∃ len cp, eI F A n f t pc EL ER len cp) ∧ (∀ k, k ≠ 17 → k ≠ 18 → k ≠ 19 → A k = A0 k) ∧ ∀ k, k ≠ 16 → F k = F0 k
theorem eS_congr {F0 F : jF} {A0 A : jA} {n pc : Nat} {f t : Nat → Nat} {EL ER EL1 ER1 : Nat → Bool} (h : eS F0 A0 F A n f t pc EL ER) (hL : ∀ l, l < n → EL1 l = EL l) (hR : ∀ l, l < n → ER1 l = ER l) : eS F0 A0 F A n f t pc EL1 ER1 := by
  obtain ⟨⟨len, cp, h1⟩, h2⟩ := h
  exact ⟨⟨len, cp, eI_congr h1 hL hR⟩, h2⟩
/-- the loops as numbers -/
def eB (F0 : jF) (A0 : jA) (c n : Nat) (f t : Nat → Nat) : Prop := F0 8 = nI c ∧ c ≤ 10 ∧ F0 13 = nI n ∧ n ≤ 10 ∧ ∀ l, l < n → A0 14 l = nI (f l) ∧ A0 15 l = nI (t l) ∧ f l ≤ t l ∧ t l < c
def eL1 (f : Nat → Nat) (p l : Nat) : Nat → Bool := fun k => decide (f k < p) || (decide (f k = p) && decide (k < l))
def eR0 (t : Nat → Nat) (p : Nat) : Nat → Bool := fun k => decide (t k < p)
def eL0 (f : Nat → Nat) (p : Nat) : Nat → Bool := fun k => decide (f k < p)
def eR1 (f t : Nat → Nat) (p s : Nat) : Nat → Bool := fun k => decide (t k < p) || (decide (t k = p) && decide (s ≤ f k))
def eR2 (f t : Nat → Nat) (p s l : Nat) : Nat → Bool := fun k => decide (t k < p) || (decide (t k = p) && (decide (s + 1 ≤ f k) || (decide (f k = s) && decide (k < l))))
/-- a place number on its way down, -1 at the end -/
def dn (k : Nat) : Int32 := match k with
  | 0 => -1
  | k + 1 => nI k
theorem dn_dec (k : Nat) : nI k + Int32.ofInt (-1) = dn k := by
  cases k with
  | zero => decide
  | succ k => exact pk_m1 k
def putF (F : jF) (len : Nat) : jF := upd F 16 (nI (len + 1))
def putA (A : jA) (len : Nat) (x y : Int32) : jA := va_up (va_up A 17 (upd (A 17) len x)) 18 (upd (A 18) len y)
set_option maxHeartbeats 4000000 in
set_option maxRecDepth 100000 in
theorem x_put (F : jF) (A : jA) (len : Nat) (hF : F 16 = nI len) (hl : len < 64) (x y : Int32) : xMv yX0_put cX0_put 3 0 [.int (x), .int (y)] F A (fun F1 A1 => F1 = putF F len ∧ A1 = putA A len x y) := by
  refine xMv.intro (fun h => [some (.ref (h)), some (.int (x)), some (.int (y))]) (by decide) rfl (fun _ => rfl) (fun _ => rfl) (fun _ => Nat.le_of_ble_eq_true rfl) ?_
  intro g w C X ret
  show J g (xP w F A) 0 [some (.ref (xh w)), some (.int (x)), some (.int (y))] []
  refine j_aload_n C dX0_put_0 rfl ?_
  refine x_get_length C X dX0_put_1 ?_
  refine j_top (y := nI (len)) (hF) ?_
  refine j_bipush C (v := nI (64)) dX0_put_4 (by decide) ?_
  refine j_icmp_lt C 10 dX0_put_6 (by decide) (fun c_6 => ?_) (fun c_6 => ?_)
  · skip
    have c_6 : len < 64 := (nI_ltI (a := len) (b := 64) (by omega) (by omega)).mp c_6
    refine j_aload_n C dX0_put_10 rfl ?_
    refine x_get_word C X dX0_put_11 ?_
    refine j_aload_n C dX0_put_14 rfl ?_
    refine x_get_length C X dX0_put_15 ?_
    refine j_top (y := nI (len)) (hF) ?_
    refine j_iload_n C dX0_put_18 rfl ?_
    obtain ⟨A_1, eA_1⟩ : ∃ Z, va_up A 17 (upd (A 17) (len) (x)) = Z := ⟨_, rfl⟩
    refine x_ast_word (len) C X dX0_put_19 rfl (by omega) eA_1 ?_
    refine j_aload_n C dX0_put_20 rfl ?_
    refine x_get_with C X dX0_put_21 ?_
    refine j_aload_n C dX0_put_24 rfl ?_
    refine x_get_length C X dX0_put_25 ?_
    refine j_top (y := nI (len)) (hF) ?_
    refine j_iload_n C dX0_put_28 rfl ?_
    obtain ⟨A_2, eA_2⟩ : ∃ Z, va_up A_1 18 (upd (A_1 18) (len) (y)) = Z := ⟨_, rfl⟩
    refine x_ast_with (len) C X dX0_put_29 rfl (by omega) eA_2 ?_
    refine j_aload_n C dX0_put_30 rfl ?_
    refine j_dup C dX0_put_31 rfl ?_
    refine x_get_length C X dX0_put_32 ?_
    refine j_top (y := nI (len)) (hF) ?_
    refine j_iconst C (v := nI (1)) dX0_put_35 (by decide) ?_
    refine j_iadd C (v := nI (len + 1)) dX0_put_36 (nI_add _ _) ?_
    obtain ⟨F_3, eF_3⟩ : ∃ Z, upd F 16 (nI (len + 1)) = Z := ⟨_, rfl⟩
    refine x_put_length C X dX0_put_37 eF_3 ?_
    exact ret _ _ _ _ dX0_put_40 ⟨by subst eF_3; rfl, by subst eA_2; subst eA_1; rfl⟩
  · skip
    have c_6 : ¬ len < 64 := fun hh => c_6 ((nI_ltI (a := len) (b := 64) (by omega) (by omega)).mpr hh)
    omega
set_option maxHeartbeats 4000000 in
set_option maxRecDepth 100000 in
theorem x_el_loop {g : jG} {w : xT} (C : jC g cX0_endLoop 4) (X : xX g w 1) {F0 : jF} {A0 : jA} {c n s p : Nat} {f t : Nat → Nat} {EL : Nat → Bool} (hB : eB F0 A0 c n f t) (hs : s ≤ p) (hp : p < c) (hend : ∀ (F : jF) (A : jA), eS F0 A0 F A n f t (p + 1) EL (eR1 f t p s) → J g (xP w F A) 42 [some (.ref (xh w)), some (.int (nI s)), some (.int (nI p)), some (.int (nI n))] []) :
    ∀ (k l : Nat) (F : jF) (A : jA), l + k = n → eS F0 A0 F A n f t (p + 1) EL (eR2 f t p s l) → J g (xP w F A) 2 [some (.ref (xh w)), some (.int (nI s)), some (.int (nI p)), some (.int (nI l))] [] := by
  have hn10 := hB.2.2.2.1
  have hc10 := hB.2.1
  intro k
  induction k with
  | zero =>
    intro l F A hl hS
    obtain rfl : l = n := by omega
    have e13 : F 13 = nI l := by rw [hS.2.2 13 (by decide)]; exact hB.2.2.1
    refine j_iload_n C dX0_endLoop_2 rfl ?_
    refine j_aload_n C dX0_endLoop_3 rfl ?_
    refine x_get_loops C X dX0_endLoop_4 ?_
    refine j_top (y := nI (l)) (e13) ?_
    refine j_icmp_ge C 42 dX0_endLoop_7 (by decide) (fun c_7 => ?_) (fun c_7 => ?_)
    · skip
      have c_7 : l ≤ l := (nI_leI (a := l) (b := l) (by omega) (by omega)).mp c_7
      refine hend F A (eS_congr hS (fun _ _ => rfl) (fun k hk => ?_))
      refine Bool.eq_iff_iff.mpr ?_
      simp only [eR1, eR2, Bool.or_eq_true, Bool.and_eq_true, decide_eq_true_eq]
      omega
    · skip
      have c_7 : ¬ l ≤ l := fun hh => c_7 ((nI_leI (a := l) (b := l) (by omega) (by omega)).mpr hh)
      omega
  | succ k ih =>
    intro l F A hl hS
    have e13 : F 13 = nI n := by rw [hS.2.2 13 (by decide)]; exact hB.2.2.1
    have e14 : A 14 l = nI (f l) := by rw [hS.2.1 14 (by decide) (by decide) (by decide)]; exact (hB.2.2.2.2 l (by omega)).1
    have e15 : A 15 l = nI (t l) := by rw [hS.2.1 15 (by decide) (by decide) (by decide)]; exact (hB.2.2.2.2 l (by omega)).2.1
    have hft := (hB.2.2.2.2 l (by omega)).2.2
    obtain ⟨⟨len, cp, hI⟩, hA, hF⟩ := id hS
    have hlen := eI_len hI (by omega) hn10
    refine j_iload_n C dX0_endLoop_2 rfl ?_
    refine j_aload_n C dX0_endLoop_3 rfl ?_
    refine x_get_loops C X dX0_endLoop_4 ?_
    refine j_top (y := nI (n)) (e13) ?_
    refine j_icmp_ge C 42 dX0_endLoop_7 (by decide) (fun c_7 => ?_) (fun c_7 => ?_)
    · skip
      have c_7 : n ≤ l := (nI_leI (a := n) (b := l) (by omega) (by omega)).mp c_7
      omega
    · skip
      have c_7 : ¬ n ≤ l := fun hh => c_7 ((nI_leI (a := n) (b := l) (by omega) (by omega)).mpr hh)
      refine j_aload_n C dX0_endLoop_10 rfl ?_
      refine x_get_from C X dX0_endLoop_11 ?_
      refine j_iload_n C dX0_endLoop_14 rfl ?_
      refine x_ald_from (v := nI (f l)) (l) C X dX0_endLoop_15 rfl (by omega) (e14) ?_
      refine j_iload_n C dX0_endLoop_16 rfl ?_
      refine j_icmp_ne C 36 dX0_endLoop_17 (by decide) (fun c_17 => ?_) (fun c_17 => ?_)
      · skip
        have c_17 : ¬ (f l = s) := fun hh => c_17 ((nI_eq (a := f l) (b := s) (by omega) (by omega)).mpr hh)
        refine j_iinc C (v := nI (l + 1)) (L' := [some (.ref (xh w)), some (.int (nI s)), some (.int (nI p)), some (.int (nI (l + 1)))]) dX0_endLoop_36 rfl (nI_1 _) (Nat.le_of_ble_eq_true rfl) rfl rfl ?_
        refine j_goto C 2 dX0_endLoop_39 (by decide) ?_
        refine ih (l + 1) F A (by omega) (eS_congr hS (fun _ _ => rfl) (fun k hk => ?_))
        refine Bool.eq_iff_iff.mpr ?_
        simp only [eR2, Bool.or_eq_true, Bool.and_eq_true, decide_eq_true_eq]
        by_cases hx : k = l
        · subst hx
          omega
        · omega
      · skip
        have c_17 : f l = s := (nI_eq (a := f l) (b := s) (by omega) (by omega)).mp c_17
        refine j_aload_n C dX0_endLoop_20 rfl ?_
        refine x_get_to C X dX0_endLoop_21 ?_
        refine j_iload_n C dX0_endLoop_24 rfl ?_
        refine x_ald_to (v := nI (t l)) (l) C X dX0_endLoop_25 rfl (by omega) (e15) ?_
        refine j_iload_n C dX0_endLoop_26 rfl ?_
        refine j_icmp_ne C 36 dX0_endLoop_27 (by decide) (fun c_27 => ?_) (fun c_27 => ?_)
        · skip
          have c_27 : ¬ (t l = p) := fun hh => c_27 ((nI_eq (a := t l) (b := p) (by omega) (by omega)).mpr hh)
          refine j_iinc C (v := nI (l + 1)) (L' := [some (.ref (xh w)), some (.int (nI s)), some (.int (nI p)), some (.int (nI (l + 1)))]) dX0_endLoop_36 rfl (nI_1 _) (Nat.le_of_ble_eq_true rfl) rfl rfl ?_
          refine j_goto C 2 dX0_endLoop_39 (by decide) ?_
          refine ih (l + 1) F A (by omega) (eS_congr hS (fun _ _ => rfl) (fun k hk => ?_))
          refine Bool.eq_iff_iff.mpr ?_
          simp only [eR2, Bool.or_eq_true, Bool.and_eq_true, decide_eq_true_eq]
          by_cases hx : k = l
          · subst hx
            omega
          · omega
        · skip
          have c_27 : t l = p := (nI_eq (a := t l) (b := p) (by omega) (by omega)).mp c_27
          refine j_aload_n C dX0_endLoop_30 rfl ?_
          refine j_iconst C (v := nI (2)) dX0_endLoop_31 (by decide) ?_
          refine j_iload_n C dX0_endLoop_32 rfl ?_
          refine x_callv C X (x_put F A len hI.1 (by omega) (nI 2) (nI l)) (lw_V q173 q175 qs7 q18 q176) (n := 2) (by decide +kernel) rfl (by decide) (by decide) dX0_endLoop_33 rfl (Nat.le_of_ble_eq_true rfl) rfl (fun F_2 A_3 hQ => ?_)
          refine j_iinc C (v := nI (l + 1)) (L' := [some (.ref (xh w)), some (.int (nI s)), some (.int (nI p)), some (.int (nI (l + 1)))]) dX0_endLoop_36 rfl (nI_1 _) (Nat.le_of_ble_eq_true rfl) rfl rfl ?_
          refine j_goto C 2 dX0_endLoop_39 (by decide) ?_
          obtain ⟨p1, p2⟩ := hQ
          refine ih (l + 1) F_2 A_3 (by omega) ⟨⟨len + 1, cp, ?_⟩, fun k h1 h2 h3 => ?_, fun k h1 => ?_⟩
          · refine eI_rep (E1 := eR2 f t p s (l + 1)) hI (show l < n by omega) (by omega) ?_ ?_ (fun k hk hne => ?_) ?_ ?_ ?_ ?_
            · simp only [eR2, Bool.or_eq_false_iff, Bool.and_eq_false_iff, decide_eq_false_iff_not]
              omega
            · simp only [eR2, Bool.or_eq_true, Bool.and_eq_true, decide_eq_true_eq]
              omega
            · refine Bool.eq_iff_iff.mpr ?_
              simp only [eR2, Bool.or_eq_true, Bool.and_eq_true, decide_eq_true_eq]
              omega
            · rw [p1]; exact pk_us
            · rw [p2, putA, up_n (by decide), up_s]
            · rw [p2, putA, up_s]
            · rw [p2, putA, up_n (by decide), up_n (by decide)]
          · rw [p2, putA, up_n h2, up_n h1]; exact hA k h1 h2 h3
          · rw [p1, putF, pk_un h1]; exact hF k h1
set_option maxHeartbeats 4000000 in
set_option maxRecDepth 100000 in
theorem x_endLoop (F : jF) (A : jA) (F0 : jF) (A0 : jA) (c n s p : Nat) (f t : Nat → Nat) (EL : Nat → Bool) (hB : eB F0 A0 c n f t) (hs : s ≤ p) (hp : p < c) (hS : eS F0 A0 F A n f t (p + 1) EL (eR1 f t p (s + 1))) : xMv yX0_endLoop cX0_endLoop 4 1 [.int (nI s), .int (nI p)] F A (fun F1 A1 => eS F0 A0 F1 A1 n f t (p + 1) EL (eR1 f t p s)) := by
  refine xMv.intro (fun h => [some (.ref (h)), some (.int (nI s)), some (.int (nI p)), none]) (by decide) rfl (fun _ => rfl) (fun _ => rfl) (fun _ => Nat.le_of_ble_eq_true rfl) ?_
  intro g w C X ret
  show J g (xP w F A) 0 [some (.ref (xh w)), some (.int (nI s)), some (.int (nI p)), none] []
  refine j_iconst C (v := nI (0)) dX0_endLoop_0 (by decide) ?_
  refine j_istore_n C (L' := [some (.ref (xh w)), some (.int (nI s)), some (.int (nI p)), some (.int (nI 0))]) dX0_endLoop_1 (Nat.le_of_ble_eq_true rfl) rfl rfl ?_
  refine x_el_loop C X hB hs hp (fun F1 A1 h => ret _ _ _ _ dX0_endLoop_42 h) n 0 F A (by omega) (eS_congr hS (fun _ _ => rfl) (fun k hk => ?_))
  refine Bool.eq_iff_iff.mpr ?_
  simp only [eR1, eR2, Bool.or_eq_true, Bool.and_eq_true, decide_eq_true_eq]
  omega
set_option maxHeartbeats 4000000 in
set_option maxRecDepth 100000 in
theorem x_em_begin {g : jG} {w : xT} (C : jC g cX0_emit 3) (X : xX g w 2) {F0 : jF} {A0 : jA} {c n : Nat} {f t : Nat → Nat} (hB : eB F0 A0 c n f t) {p : Nat} (hp : p < c) (hend : ∀ (F : jF) (A : jA), eS F0 A0 F A n f t p (eL0 f (p + 1)) (eR0 t p) → J g (xP w F A) 57 [some (.ref (xh w)), some (.int (nI p)), some (.int (nI n))] []) :
    ∀ (k l : Nat) (F : jF) (A : jA), l + k = n → eS F0 A0 F A n f t p (eL1 f p l) (eR0 t p) → J g (xP w F A) 17 [some (.ref (xh w)), some (.int (nI p)), some (.int (nI l))] [] := by
  have hn10 := hB.2.2.2.1
  have hc10 := hB.2.1
  intro k
  induction k with
  | zero =>
    intro l F A hl hS
    obtain rfl : l = n := by omega
    have e13 : F 13 = nI l := by rw [hS.2.2 13 (by decide)]; exact hB.2.2.1
    refine j_iload_n C dX0_emit_17 rfl ?_
    refine j_aload_n C dX0_emit_18 rfl ?_
    refine x_get_loops C X dX0_emit_19 ?_
    refine j_top (y := nI (l)) (e13) ?_
    refine j_icmp_ge C 57 dX0_emit_22 (by decide) (fun c_22 => ?_) (fun c_22 => ?_)
    · skip
      have c_22 : l ≤ l := (nI_leI (a := l) (b := l) (by omega) (by omega)).mp c_22
      refine hend F A (eS_congr hS (fun k hk => ?_) (fun _ _ => rfl))
      refine Bool.eq_iff_iff.mpr ?_
      simp only [eL0, eL1, Bool.or_eq_true, Bool.and_eq_true, decide_eq_true_eq]
      omega
    · skip
      have c_22 : ¬ l ≤ l := fun hh => c_22 ((nI_leI (a := l) (b := l) (by omega) (by omega)).mpr hh)
      omega
  | succ k ih =>
    intro l F A hl hS
    have e13 : F 13 = nI n := by rw [hS.2.2 13 (by decide)]; exact hB.2.2.1
    have e14 : A 14 l = nI (f l) := by rw [hS.2.1 14 (by decide) (by decide) (by decide)]; exact (hB.2.2.2.2 l (by omega)).1
    have e15 : A 15 l = nI (t l) := by rw [hS.2.1 15 (by decide) (by decide) (by decide)]; exact (hB.2.2.2.2 l (by omega)).2.1
    have hft := (hB.2.2.2.2 l (by omega)).2.2
    obtain ⟨⟨len, cp, hI⟩, hA, hF⟩ := id hS
    have hlen := eI_len hI (by omega) hn10
    refine j_iload_n C dX0_emit_17 rfl ?_
    refine j_aload_n C dX0_emit_18 rfl ?_
    refine x_get_loops C X dX0_emit_19 ?_
    refine j_top (y := nI (n)) (e13) ?_
    refine j_icmp_ge C 57 dX0_emit_22 (by decide) (fun c_22 => ?_) (fun c_22 => ?_)
    · skip
      have c_22 : n ≤ l := (nI_leI (a := n) (b := l) (by omega) (by omega)).mp c_22
      omega
    · skip
      have c_22 : ¬ n ≤ l := fun hh => c_22 ((nI_leI (a := n) (b := l) (by omega) (by omega)).mpr hh)
      refine j_aload_n C dX0_emit_25 rfl ?_
      refine x_get_from C X dX0_emit_26 ?_
      refine j_iload_n C dX0_emit_29 rfl ?_
      refine x_ald_from (v := nI (f l)) (l) C X dX0_emit_30 rfl (by omega) (e14) ?_
      refine j_iload_n C dX0_emit_31 rfl ?_
      refine j_icmp_ne C 51 dX0_emit_32 (by decide) (fun c_32 => ?_) (fun c_32 => ?_)
      · skip
        have c_32 : ¬ (f l = p) := fun hh => c_32 ((nI_eq (a := f l) (b := p) (by omega) (by omega)).mpr hh)
        refine j_iinc C (v := nI (l + 1)) (L' := [some (.ref (xh w)), some (.int (nI p)), some (.int (nI (l + 1)))]) dX0_emit_51 rfl (nI_1 _) (Nat.le_of_ble_eq_true rfl) rfl rfl ?_
        refine j_goto C 17 dX0_emit_54 (by decide) ?_
        refine ih (l + 1) F A (by omega) (eS_congr hS (fun k hk => ?_) (fun _ _ => rfl))
        refine Bool.eq_iff_iff.mpr ?_
        simp only [eL1, Bool.or_eq_true, Bool.and_eq_true, decide_eq_true_eq]
        by_cases hx : k = l
        · subst hx
          omega
        · omega
      · skip
        have c_32 : f l = p := (nI_eq (a := f l) (b := p) (by omega) (by omega)).mp c_32
        refine j_aload_n C dX0_emit_35 rfl ?_
        refine x_get_loopStart C X dX0_emit_36 ?_
        refine j_iload_n C dX0_emit_39 rfl ?_
        refine j_aload_n C dX0_emit_40 rfl ?_
        refine x_get_length C X dX0_emit_41 ?_
        refine j_top (y := nI (len)) (hI.1) ?_
        obtain ⟨A_1, eA_1⟩ : ∃ Z, va_up A 19 (upd (A 19) (l) (nI (len))) = Z := ⟨_, rfl⟩
        refine x_ast_loopStart (l) C X dX0_emit_44 rfl (by omega) eA_1 ?_
        refine j_aload_n C dX0_emit_45 rfl ?_
        refine j_iconst C (v := nI (0)) dX0_emit_46 (by decide) ?_
        refine j_iload_n C dX0_emit_47 rfl ?_
        refine x_callv C X (x_put F A_1 len hI.1 (by omega) (nI 0) (nI l)) (lw_V q173 q175 qs7 q18 q176) (n := 2) (by decide +kernel) rfl (by decide) (by decide) dX0_emit_48 rfl (Nat.le_of_ble_eq_true rfl) rfl (fun F1 A2 hQ => ?_)
        refine j_iinc C (v := nI (l + 1)) (L' := [some (.ref (xh w)), some (.int (nI p)), some (.int (nI (l + 1)))]) dX0_emit_51 rfl (nI_1 _) (Nat.le_of_ble_eq_true rfl) rfl rfl ?_
        refine j_goto C 17 dX0_emit_54 (by decide) ?_
        obtain ⟨p1, p2⟩ := hQ
        refine ih (l + 1) F1 A2 (by omega) ⟨⟨len + 1, cp, ?_⟩, fun k h1 h2 h3 => ?_, fun k h1 => ?_⟩
        · refine eI_loop (E1 := eL1 f p (l + 1)) hI (show l < n by omega) c_32 ?_ ?_ (fun k hk hne => ?_) ?_ ?_ ?_ ?_
          · simp only [eL1, Bool.or_eq_false_iff, Bool.and_eq_false_iff, decide_eq_false_iff_not]
            omega
          · simp only [eL1, Bool.or_eq_true, Bool.and_eq_true, decide_eq_true_eq]
            omega
          · refine Bool.eq_iff_iff.mpr ?_
            simp only [eL1, Bool.or_eq_true, Bool.and_eq_true, decide_eq_true_eq]
            omega
          · rw [p1]; exact pk_us
          · rw [p2, putA, up_n (by decide), up_s, ← eA_1, up_n (by decide)]
          · rw [p2, putA, up_s, ← eA_1, up_n (by decide)]
          · rw [p2, putA, up_n (by decide), up_n (by decide), ← eA_1, up_s]
        · rw [p2, putA, up_n h2, up_n h1, ← eA_1, up_n h3]; exact hA k h1 h2 h3
        · rw [p1, putF, pk_un h1]; exact hF k h1
set_option maxHeartbeats 4000000 in
set_option maxRecDepth 100000 in
theorem x_em_end {g : jG} {w : xT} (C : jC g cX0_emit 3) (X : xX g w 2) {F0 : jF} {A0 : jA} {c n : Nat} {f t : Nat → Nat} (hB : eB F0 A0 c n f t) {p : Nat} (hp : p < c) {EL : Nat → Bool} (hend : ∀ (F : jF) (A : jA), eS F0 A0 F A n f t (p + 1) EL (eR0 t (p + 1)) → J g (xP w F A) 81 [some (.ref (xh w)), some (.int (nI p)), some (.int (-1))] []) :
    ∀ (k : Nat) (F : jF) (A : jA), k ≤ p + 1 → eS F0 A0 F A n f t (p + 1) EL (eR1 f t p k) → J g (xP w F A) 65 [some (.ref (xh w)), some (.int (nI p)), some (.int (dn k))] [] := by
  have hc10 := hB.2.1
  intro k
  induction k with
  | zero =>
    intro F A hk hS
    show J g (xP w F A) 65 [some (.ref (xh w)), some (.int (nI p)), some (.int (-1))] []
    refine j_iload_n C dX0_emit_65 rfl ?_
    refine j_if_lt C 81 dX0_emit_66 (by decide) (fun c_66 => ?_) (fun c_66 => ?_)
    · skip
      refine hend F A (eS_congr hS (fun _ _ => rfl) (fun k hk => ?_))
      refine Bool.eq_iff_iff.mpr ?_
      simp only [eR0, eR1, Bool.or_eq_true, Bool.and_eq_true, decide_eq_true_eq]
      omega
    · skip
      exact absurd neg1_lt c_66
  | succ k ih =>
    intro F A hk hS
    show J g (xP w F A) 65 [some (.ref (xh w)), some (.int (nI p)), some (.int (nI k))] []
    refine j_iload_n C dX0_emit_65 rfl ?_
    refine j_if_lt C 81 dX0_emit_66 (by decide) (fun c_66 => ?_) (fun c_66 => ?_)
    · skip
      have c_66 : k < 0 := (nI_ltI (a := k) (b := 0) (by omega) (by omega)).mp c_66
      omega
    · skip
      have c_66 : ¬ k < 0 := fun hh => c_66 ((nI_ltI (a := k) (b := 0) (by omega) (by omega)).mpr hh)
      refine j_aload_n C dX0_emit_69 rfl ?_
      refine j_iload_n C dX0_emit_70 rfl ?_
      refine j_iload_n C dX0_emit_71 rfl ?_
      refine x_callv C X (x_endLoop F A F0 A0 c n k p f t EL hB (by omega) hp hS) (lw_V q177 q179 qs8 q18 q180) (n := 2) (by decide +kernel) rfl (by decide) (by decide) dX0_emit_72 rfl (Nat.le_of_ble_eq_true rfl) rfl (fun F_2 A_3 hQ => ?_)
      refine j_iinc C (v := dn k) (L' := [some (.ref (xh w)), some (.int (nI p)), some (.int (dn k))]) dX0_emit_75 rfl (dn_dec k) (Nat.le_of_ble_eq_true rfl) rfl rfl ?_
      refine j_goto C 65 dX0_emit_78 (by decide) ?_
      exact ih F_2 A_3 (by omega) hQ
set_option maxHeartbeats 4000000 in
set_option maxRecDepth 100000 in
theorem x_em_loop {g : jG} {w : xT} (C : jC g cX0_emit 3) (X : xX g w 2) {F0 : jF} {A0 : jA} {c n : Nat} {f t : Nat → Nat} (hB : eB F0 A0 c n f t) (hend : ∀ (F : jF) (A : jA), eS F0 A0 F A n f t c (eL0 f c) (eR0 t c) → J g (xP w F A) 87 [some (.ref (xh w)), some (.int (nI c)), none] []) :
    ∀ (k p : Nat) (F : jF) (A : jA), p + k = c → eS F0 A0 F A n f t p (eL0 f p) (eR0 t p) → J g (xP w F A) 7 [some (.ref (xh w)), some (.int (nI p)), none] [] := by
  have hn10 := hB.2.2.2.1
  have hc10 := hB.2.1
  intro k
  induction k with
  | zero =>
    intro p F A hp hS
    obtain rfl : p = c := by omega
    have e8 : F 8 = nI p := by rw [hS.2.2 8 (by decide)]; exact hB.1
    refine j_iload_n C dX0_emit_7 rfl ?_
    refine j_aload_n C dX0_emit_8 rfl ?_
    refine x_get_count C X dX0_emit_9 ?_
    refine j_top (y := nI (p)) (e8) ?_
    refine j_icmp_ge C 87 dX0_emit_12 (by decide) (fun c_12 => ?_) (fun c_12 => ?_)
    · skip
      have c_12 : p ≤ p := (nI_leI (a := p) (b := p) (by omega) (by omega)).mp c_12
      exact hend F A hS
    · skip
      have c_12 : ¬ p ≤ p := fun hh => c_12 ((nI_leI (a := p) (b := p) (by omega) (by omega)).mpr hh)
      omega
  | succ k ih =>
    intro p F A hp hS
    have hp2 : p < c := by omega
    have e8 : F 8 = nI c := by rw [hS.2.2 8 (by decide)]; exact hB.1
    refine j_iload_n C dX0_emit_7 rfl ?_
    refine j_aload_n C dX0_emit_8 rfl ?_
    refine x_get_count C X dX0_emit_9 ?_
    refine j_top (y := nI (c)) (e8) ?_
    refine j_icmp_ge C 87 dX0_emit_12 (by decide) (fun c_12 => ?_) (fun c_12 => ?_)
    · skip
      have c_12 : c ≤ p := (nI_leI (a := c) (b := p) (by omega) (by omega)).mp c_12
      omega
    · skip
      have c_12 : ¬ c ≤ p := fun hh => c_12 ((nI_leI (a := c) (b := p) (by omega) (by omega)).mpr hh)
      refine j_iconst C (v := nI (0)) dX0_emit_15 (by decide) ?_
      refine j_istore_n C (L' := [some (.ref (xh w)), some (.int (nI p)), some (.int (nI 0))]) dX0_emit_16 (Nat.le_of_ble_eq_true rfl) rfl rfl ?_
      refine x_em_begin C X hB hp2 (fun F2 A2 hS2 => ?_) n 0 F A (by omega) (eS_congr hS (fun k hk => ?_) (fun _ _ => rfl))
      · obtain ⟨⟨len, cp, hI⟩, hA, hF⟩ := hS2
        have hlen := eI_len hI (by omega) hn10
        refine j_aload_n C dX0_emit_57 rfl ?_
        refine j_iconst C (v := nI (1)) dX0_emit_58 (by decide) ?_
        refine j_iload_n C dX0_emit_59 rfl ?_
        refine x_callv C X (x_put F2 A2 len hI.1 (by omega) (nI 1) (nI p)) (lw_V q173 q175 qs7 q18 q176) (n := 2) (by decide +kernel) rfl (by decide) (by decide) dX0_emit_60 rfl (Nat.le_of_ble_eq_true rfl) rfl (fun F3 A3 hQ => ?_)
        refine j_iload_n C dX0_emit_63 rfl ?_
        refine j_istore_n C (L' := [some (.ref (xh w)), some (.int (nI p)), some (.int (nI p))]) dX0_emit_64 (Nat.le_of_ble_eq_true rfl) rfl rfl ?_
        obtain ⟨p1, p2⟩ := hQ
        refine x_em_end C X hB hp2 (EL := eL0 f (p + 1)) (fun F4 A4 hS4 => ?_) (p + 1) F3 A3 (Nat.le_refl _) (eS_congr (ER := eR0 t p) ⟨⟨len + 1, va_up cp p len, ?_⟩, fun k h1 h2 h3 => ?_, fun k h1 => ?_⟩ (fun _ _ => rfl) (fun k hk => ?_))
        · skip
          refine j_iinc C (v := nI (p + 1)) (L' := [some (.ref (xh w)), some (.int (nI (p + 1))), some (.int (-1))]) dX0_emit_81 rfl (nI_1 _) (Nat.le_of_ble_eq_true rfl) rfl rfl ?_
          refine j_goto C 7 dX0_emit_84 (by decide) ?_
          refine j_forget [true, true, false] rfl rfl ?_
          exact ih (p + 1) F4 A4 (by omega) hS4
        · refine eI_code hI ?_ ?_ ?_ ?_
          · rw [p1]; exact pk_us
          · rw [p2, putA, up_n (by decide), up_s]
          · rw [p2, putA, up_s]
          · rw [p2, putA, up_n (by decide), up_n (by decide)]
        · rw [p2, putA, up_n h2, up_n h1]; exact hA k h1 h2 h3
        · rw [p1, putF, pk_un h1]; exact hF k h1
        · have := (hB.2.2.2.2 k hk).2.2
          refine Bool.eq_iff_iff.mpr ?_
          simp only [eR0, eR1, Bool.or_eq_true, Bool.and_eq_true, decide_eq_true_eq]
          omega
      · refine Bool.eq_iff_iff.mpr ?_
        simp only [eL0, eL1, Bool.or_eq_true, Bool.and_eq_true, decide_eq_true_eq]
        omega
theorem cnt_0 : ∀ (M : Nat → Bool) (n : Nat), (∀ k, k < n → M k = false) → cnt M n = 0
  | _, 0, _ => rfl
  | M, n + 1, h => by
    unfold cnt
    rw [cnt_0 M n (fun k hk => h k (by omega)), h n (by omega)]
    rfl
theorem eB_of {F : jF} {A : jA} {c n : Nat} (h8 : F 8 = nI c) (hc : c ≤ 10) (hL : pLoop F A c n) : eB F A c n (fun l => (A 14 l).toNatClampNeg) (fun l => (A 15 l).toNatClampNeg) := by
  refine ⟨h8, hc, hL.1, hL.2.1, fun l hl => ?_⟩
  obtain ⟨a, b, e1, e2, h1, h2⟩ := hL.2.2.1 l hl
  show A 14 l = nI ((A 14 l).toNatClampNeg) ∧ A 15 l = nI ((A 15 l).toNatClampNeg) ∧ (A 14 l).toNatClampNeg ≤ (A 15 l).toNatClampNeg ∧ (A 15 l).toNatClampNeg < c
  rw [e1, e2, nI_clamp (by omega), nI_clamp (by omega)]
  exact ⟨rfl, rfl, h1, h2⟩
theorem pCode_of {F0 F : jF} {A0 A : jA} {c n : Nat} {f t : Nat → Nat} (hB : eB F0 A0 c n f t) (hS : eS F0 A0 F A n f t c (eL0 f c) (eR0 t c)) : ∃ len cp, pCode F A c n len cp := by
  obtain ⟨⟨len, cp, hI⟩, hA, hF⟩ := hS
  have hlen := eI_len hI hB.2.1 hB.2.2.2.1
  obtain ⟨h1, h2, h3, h4, h5, h6, h7⟩ := hI
  have e14 : ∀ l, l < n → A 14 l = nI (f l) := fun l hl => by rw [hA 14 (by decide) (by decide) (by decide)]; exact (hB.2.2.2.2 l hl).1
  have e15 : ∀ l, l < n → A 15 l = nI (t l) := fun l hl => by rw [hA 15 (by decide) (by decide) (by decide)]; exact (hB.2.2.2.2 l hl).2.1
  have hft : ∀ l, l < n → f l ≤ t l ∧ t l < c := fun l hl => (hB.2.2.2.2 l hl).2.2
  refine ⟨len, cp, h1, hlen, h3, h4, fun i hi => ?_, fun l hl => ?_, fun l hl => ?_⟩
  · rcases h5 i hi with h | h | ⟨h, l, hl, a1, a2, a3⟩
    · exact .inl h
    · exact .inr (.inl h)
    · exact .inr (.inr ⟨h, l, t l, hl, a1, e15 l hl, a2, a3⟩)
  · obtain ⟨i, hi, a1, a2, a3, a4⟩ := h6 l hl (by simp only [eR0, decide_eq_true_eq]; exact (hft l hl).2)
    exact ⟨i, t l, hi, a1, a2, e15 l hl, a3, a4⟩
  · have := hft l hl
    obtain ⟨q, a1, a2, a3⟩ := h7 l hl (by simp only [eL0, decide_eq_true_eq]; omega)
    exact ⟨q, f l, a1, e14 l hl, by omega, a3 (by omega)⟩
set_option maxHeartbeats 4000000 in
set_option maxRecDepth 100000 in
theorem x_emit (F : jF) (A : jA) (c n : Nat) (hc : c ≤ 10) (h8 : F 8 = nI c) (hL : pLoop F A c n) : xMv yX0_emit cX0_emit 3 2 [] F A (fun F1 A1 => (∃ len cp, pCode F1 A1 c n len cp) ∧ (∀ k, k ≠ 17 → k ≠ 18 → k ≠ 19 → A1 k = A k) ∧ ∀ k, k ≠ 16 → F1 k = F k) := by
  refine xMv.intro (fun h => [some (.ref (h)), none, none]) (by decide) rfl (fun _ => rfl) (fun _ => rfl) (fun _ => Nat.le_of_ble_eq_true rfl) ?_
  intro g w C X ret
  show J g (xP w F A) 0 [some (.ref (xh w)), none, none] []
  refine j_aload_n C dX0_emit_0 rfl ?_
  refine j_iconst C (v := nI (0)) dX0_emit_1 (by decide) ?_
  obtain ⟨F_1, eF_1⟩ : ∃ Z, upd F 16 (nI (0)) = Z := ⟨_, rfl⟩
  refine x_put_length C X dX0_emit_2 eF_1 ?_
  refine j_iconst C (v := nI (0)) dX0_emit_5 (by decide) ?_
  refine j_istore_n C (L' := [some (.ref (xh w)), some (.int (nI 0)), none]) dX0_emit_6 (Nat.le_of_ble_eq_true rfl) rfl rfl ?_
  have hB := eB_of h8 hc hL
  have hB1 : eB F_1 A c n (fun l => (A 14 l).toNatClampNeg) (fun l => (A 15 l).toNatClampNeg) := by
    obtain ⟨b1, b2, b3, b4⟩ := hB
    exact ⟨by rw [← eF_1, pk_un (by decide)]; exact b1, b2, by rw [← eF_1, pk_un (by decide)]; exact b3, b4⟩
  refine x_em_loop C X hB1 (fun F1 A1 hS => ?_) c 0 F_1 A (by omega) ⟨⟨0, fun _ => 0, ?_⟩, fun _ _ _ _ => rfl, fun _ _ => rfl⟩
  · exact ret _ _ _ _ dX0_emit_87 ⟨pCode_of hB1 hS, hS.2.1, fun k hk => by rw [hS.2.2 k hk, ← eF_1, pk_un hk]⟩
  · refine ⟨by rw [← eF_1, pk_us], ?_, fun p hp => by omega, fun p q _ hq => by omega, fun i hi => by omega, fun l hl he => ?_, fun l hl he => ?_⟩
    · rw [cnt_0 _ n (fun k hk => by simp [eL0]), cnt_0 _ n (fun k hk => by simp [eR0])]
    · simp [eR0] at he
    · simp [eL0] at he
end
section
theorem pOrd_fr {F F1 : jF} {A A1 : jA} {c : Nat} {o : Nat → Nat} (h5 : A1 5 = A 5) (h6 : A1 6 = A 6) (h9 : A1 9 = A 9) (h10 : A1 10 = A 10) (h8 : F1 8 = F 8) (h : pOrd F A c o) : pOrd F1 A1 c o := by
  unfold pOrd at *
  rw [h5, h6, h9, h10, h8]
  exact h
theorem pLoop_fr {F F1 : jF} {A A1 : jA} {c n : Nat} (h14 : A1 14 = A 14) (h15 : A1 15 = A 15) (h13 : F1 13 = F 13) (h : pLoop F A c n) : pLoop F1 A1 c n := by
  unfold pLoop at *
  rw [h14, h15, h13]
  exact h
theorem pBack_fr {A A1 : jA} {c n : Nat} {o : Nat → Nat} (h5 : A1 5 = A 5) (h6 : A1 6 = A 6) (hm : ∀ x y, Cov A n x y → Cov A1 n x y) (h : pBack A c n o) : pBack A1 c n o := by
  intro p x q h1 h2 h3 h4 h7 h8
  rw [h5, h6] at h3
  exact hm _ _ (h p x q h1 h2 h3 h4 h7 h8)
theorem Cov_fr {A A1 : jA} {n : Nat} (h14 : A1 14 = A 14) (h15 : A1 15 = A 15) (x y : Nat) (h : Cov A n x y) : Cov A1 n x y := by
  unfold Cov at *
  rw [h14, h15]
  exact h
theorem vrun_congr {A B : jA} (h : ∀ k, k < 7 → B k = A k) : ∀ (n b : Nat) (V : aV), vrun B n b V = vrun A n b V
  | 0, b, V => rfl
  | n + 1, b, V => by
    unfold vrun
    rw [vent_congr (fun k hk => h k (by omega)), vnext_congr h, vrun_congr h n]
set_option maxHeartbeats 4000000 in
set_option maxRecDepth 100000 in
theorem x_pr_loop {g : jG} {w : xT} {F : jF} (C : jC g cX0_prepare 3) (X : xX g w 3) (A0 : jA) {c n : Nat} (hc : c ≤ 10) (hend : ∀ (A : jA) (v : Int32) (rd : Nat), pLoop F A c n → wdI A0 A n → J g (xP w F A) 46 [some (.ref (xh w)), some (.int v), some (.int (nI rd))] []) :
    ∀ (k rd : Nat) (A : jA) (v : Int32), rd + k = 100 → pLoop F A c n → wdI A0 A n → J g (xP w F A) 25 [some (.ref (xh w)), some (.int v), some (.int (nI rd))] [] := by
  intro k
  induction k with
  | zero =>
    intro rd A v hk hL hI
    refine j_iload_n C dX0_prepare_25 rfl ?_
    refine j_bipush C (v := nI (100)) dX0_prepare_26 (by decide) ?_
    refine j_icmp_ge C 46 dX0_prepare_28 (by decide) (fun c_28 => ?_) (fun c_28 => ?_)
    · skip
      have c_28 : 100 ≤ rd := (nI_leI (a := 100) (b := rd) (by omega) (by omega)).mp c_28
      exact hend A v rd hL hI
    · skip
      have c_28 : ¬ 100 ≤ rd := fun hh => c_28 ((nI_leI (a := 100) (b := rd) (by omega) (by omega)).mpr hh)
      omega
  | succ k ih =>
    intro rd A v hk hL hI
    refine j_iload_n C dX0_prepare_25 rfl ?_
    refine j_bipush C (v := nI (100)) dX0_prepare_26 (by decide) ?_
    refine j_icmp_ge C 46 dX0_prepare_28 (by decide) (fun c_28 => ?_) (fun c_28 => ?_)
    · skip
      have c_28 : 100 ≤ rd := (nI_leI (a := 100) (b := rd) (by omega) (by omega)).mp c_28
      omega
    · skip
      have c_28 : ¬ 100 ≤ rd := fun hh => c_28 ((nI_leI (a := 100) (b := rd) (by omega) (by omega)).mpr hh)
      refine j_iload_n C dX0_prepare_31 rfl ?_
      refine j_if_eq C 46 dX0_prepare_32 (by decide) (fun c_32 => ?_) (fun c_32 => ?_)
      · skip
        exact hend A v rd hL hI
      · skip
        refine j_aload_n C dX0_prepare_35 rfl ?_
        refine x_calli C X (x_widenOnce F A c n hc hL) (lw_V q165 q167 qs5 q18 q168) (n := 0) (by decide +kernel) rfl (by decide) (by decide) dX0_prepare_36 rfl (Nat.le_of_ble_eq_true rfl) rfl (fun v1 F1 A1 hW => ?_)
        obtain ⟨rfl, hL1, hC1, hA1⟩ := hW
        refine j_istore_n C (L' := [some (.ref (xh w)), some (.int (v1)), some (.int (nI rd))]) dX0_prepare_39 (Nat.le_of_ble_eq_true rfl) rfl rfl ?_
        refine j_iinc C (v := nI (rd + 1)) (L' := [some (.ref (xh w)), some (.int (v1)), some (.int (nI (rd + 1)))]) dX0_prepare_40 rfl (nI_1 _) (Nat.le_of_ble_eq_true rfl) rfl rfl ?_
        refine j_goto C 25 dX0_prepare_43 (by decide) ?_
        exact ih (rd + 1) A1 v1 (by omega) hL1 ⟨fun x y h => hC1 x y (hI.1 x y h), fun k hk => (hA1 k hk).trans (hI.2 k hk)⟩
set_option maxHeartbeats 4000000 in
set_option maxRecDepth 100000 in
theorem x_prepare (F : jF) (A : jA) (heo : endOK A) (hr : F 7 = nI 0 ∨ F 7 = nI 1) (hP : F 7 = nI 1 → Prep F A) : xMv yX0_prepare cX0_prepare 3 3 [] F A (fun F1 A1 => Prep F1 A1 ∧ F1 7 = nI 1 ∧ (∀ k, k ≠ 9 → k ≠ 10 → k ≠ 11 → k ≠ 12 → k ≠ 14 → k ≠ 15 → k ≠ 17 → k ≠ 18 → k ≠ 19 → A1 k = A k) ∧ ∀ k, k ≠ 7 → k ≠ 8 → k ≠ 13 → k ≠ 16 → F1 k = F k) := by
  refine xMv.intro (fun h => [some (.ref (h)), none, none]) (by decide) rfl (fun _ => rfl) (fun _ => rfl) (fun _ => Nat.le_of_ble_eq_true rfl) ?_
  intro g w C X ret
  show J g (xP w F A) 0 [some (.ref (xh w)), none, none] []
  rcases hr with hr | hr
  · skip
    refine j_aload_n C dX0_prepare_0 rfl ?_
    refine x_get_ready C X dX0_prepare_1 ?_
    refine j_top (y := nI (0)) (hr) ?_
    refine j_if_eq C 8 dX0_prepare_4 (by decide) (fun c_4 => ?_) (fun c_4 => ?_)
    · skip
      have c_4 : 0 = 0 := (nI_eq (a := 0) (b := 0) (by omega) (by omega)).mp c_4
      refine j_aload_n C dX0_prepare_8 rfl ?_
      refine j_iconst C (v := nI (1)) dX0_prepare_9 (by decide) ?_
      obtain ⟨F_1, eF_1⟩ : ∃ Z, upd F 7 (nI (1)) = Z := ⟨_, rfl⟩
      refine x_put_ready C X dX0_prepare_10 (by decide) eF_1 ?_
      refine j_aload_n C dX0_prepare_13 rfl ?_
      refine x_callv C X (x_orderBlocks F_1 A heo) (lw_V q153 q155 qs2 q18 q156) (n := 0) (by decide +kernel) rfl (by decide) (by decide) dX0_prepare_14 rfl (Nat.le_of_ble_eq_true rfl) rfl (fun F2 A2 hOB => ?_)
      obtain ⟨⟨c, o, hO⟩, hfA2, hfF2⟩ := hOB
      have heo2 : endOK A2 := endOK_congr (fun k hk => hfA2 k (by omega) (by omega) (by omega) (by omega)) heo
      refine j_aload_n C dX0_prepare_17 rfl ?_
      refine x_callv C X (x_findLoops F2 A2 c o hO heo2) (lw_V q157 q159 qs3 q18 q160) (n := 0) (by decide +kernel) rfl (by decide) (by decide) dX0_prepare_18 rfl (Nat.le_of_ble_eq_true rfl) rfl (fun F3 A3 hFL => ?_)
      obtain ⟨n, hL, hBk, hfA3, hfF3⟩ := hFL
      have h8 : F3 8 = nI c := by rw [hfF3 8 (by decide)]; exact hO.2.2.1
      refine j_iconst C (v := nI (1)) dX0_prepare_21 (by decide) ?_
      refine j_istore_n C (L' := [some (.ref (xh w)), some (.int (nI 1)), none]) dX0_prepare_22 (Nat.le_of_ble_eq_true rfl) rfl rfl ?_
      refine j_iconst C (v := nI (0)) dX0_prepare_23 (by decide) ?_
      refine j_istore_n C (L' := [some (.ref (xh w)), some (.int (nI 1)), some (.int (nI 0))]) dX0_prepare_24 (Nat.le_of_ble_eq_true rfl) rfl rfl ?_
      refine x_pr_loop C X A3 hO.2.1 (fun A4 v rd hL4 hI => ?_) 100 0 A3 (nI 1) (by omega) hL ⟨fun _ _ h => h, fun _ _ => rfl⟩
      refine j_aload_n C dX0_prepare_46 rfl ?_
      refine x_callv C X (x_emit F3 A4 c n hO.2.1 h8 hL4) (lw_V q169 q171 qs6 q18 q172) (n := 0) (by decide +kernel) rfl (by decide) (by decide) dX0_prepare_47 rfl (Nat.le_of_ble_eq_true rfl) rfl (fun F5 A5 hE => ?_)
      obtain ⟨⟨len, cp, hC⟩, hA5, hF5⟩ := hE
      refine ret _ _ _ _ dX0_prepare_50 ⟨⟨c, n, len, o, cp, ?_, ?_, ?_, hC⟩, ?_, fun k h1 h2 h3 h4 h5 h6 h7 h8 h9 => ?_, fun k h1 h2 h3 h4 => ?_⟩
      · refine pOrd_fr ?_ ?_ ?_ ?_ ?_ hO
        · rw [hA5 5 (by decide) (by decide) (by decide), hI.2 5 (by decide), hfA3 5 (by decide) (by decide)]
        · rw [hA5 6 (by decide) (by decide) (by decide), hI.2 6 (by decide), hfA3 6 (by decide) (by decide)]
        · rw [hA5 9 (by decide) (by decide) (by decide), hI.2 9 (by decide), hfA3 9 (by decide) (by decide)]
        · rw [hA5 10 (by decide) (by decide) (by decide), hI.2 10 (by decide), hfA3 10 (by decide) (by decide)]
        · rw [hF5 8 (by decide), hfF3 8 (by decide)]
      · exact pLoop_fr (hA5 14 (by decide) (by decide) (by decide)) (hA5 15 (by decide) (by decide) (by decide)) (hF5 13 (by decide)) hL4
      · refine pBack_fr ?_ ?_ (fun x y h => Cov_fr (hA5 14 (by decide) (by decide) (by decide)) (hA5 15 (by decide) (by decide) (by decide)) x y (hI.1 x y h)) hBk
        · rw [hA5 5 (by decide) (by decide) (by decide), hI.2 5 (by decide)]
        · rw [hA5 6 (by decide) (by decide) (by decide), hI.2 6 (by decide)]
      · rw [hF5 7 (by decide), hfF3 7 (by decide), hfF2 7 (by decide), ← eF_1, pk_us]
      · rw [hA5 k h7 h8 h9, hI.2 k h6, hfA3 k h5 h6, hfA2 k h1 h2 h3 h4]
      · rw [hF5 k h4, hfF3 k h3, hfF2 k h2, ← eF_1, pk_un h1]
    · skip
      have c_4 : ¬ (0 = 0) := fun hh => c_4 ((nI_eq (a := 0) (b := 0) (by omega) (by omega)).mpr hh)
      exact absurd rfl c_4
  · skip
    refine j_aload_n C dX0_prepare_0 rfl ?_
    refine x_get_ready C X dX0_prepare_1 ?_
    refine j_top (y := nI (1)) (hr) ?_
    refine j_if_eq C 8 dX0_prepare_4 (by decide) (fun c_4 => ?_) (fun c_4 => ?_)
    · skip
      have c_4 : 1 = 0 := (nI_eq (a := 1) (b := 0) (by omega) (by omega)).mp c_4
      omega
    · skip
      have c_4 : ¬ (1 = 0) := fun hh => c_4 ((nI_eq (a := 1) (b := 0) (by omega) (by omega)).mpr hh)
      exact ret _ _ _ _ dX0_prepare_7 ⟨hP hr, hr, fun _ _ _ _ _ _ _ _ _ _ => rfl, fun _ _ _ _ _ => rfl⟩
set_option maxHeartbeats 4000000 in
set_option maxRecDepth 100000 in
theorem x_run (F : jF) (A : jA) (hsz : szOK A) (hop : opOK A) (heo : endOK A) (hr : F 7 = nI 0 ∨ F 7 = nI 1) (hP : F 7 = nI 1 → Prep F A) (V : aV) (hV : xAbs F A V) : xMi yX0_run cX0_run 3 .int 5 [] F A (fun r F1 A1 => r = (vrun A 300 0 (vz V)).1 ∧ xAbs F1 A1 (vrun A 300 0 (vz V)).2 ∧ (∀ k, k < 7 → A1 k = A k) ∧ F1 7 = nI 1 ∧ Prep F1 A1) := by
  refine xMi.intro (fun h => [some (.ref (h)), none, none]) (by decide) rfl (fun _ => rfl) (fun _ => rfl) (fun _ => Nat.le_of_ble_eq_true rfl) ?_
  intro g w C X ret
  show J g (xP w F A) 0 [some (.ref (xh w)), none, none] []
  refine j_aload_n C dX0_run_0 rfl ?_
  refine x_callv C X (x_prepare F A heo hr hP) (lw_V q149 q151 qs1 q18 q152) (n := 0) (by decide +kernel) rfl (by decide) (by decide) dX0_run_1 rfl (Nat.le_of_ble_eq_true rfl) rfl (fun F1 A1 hPr => ?_)
  obtain ⟨hPrep, h7, hfA, hfF⟩ := hPr
  refine j_iconst C (v := nI (0)) dX0_run_4 (by decide) ?_
  refine j_istore_n C (L' := [some (.ref (xh w)), some (.int (nI 0)), none]) dX0_run_5 (Nat.le_of_ble_eq_true rfl) rfl rfl ?_
  refine x_run_z C X A1 (fun A2 k1 k2 => ?_) 10 0 A1 (by omega) (fun _ _ => rfl) (fun j a => by omega)
  refine j_aload_n C dX0_run_25 rfl ?_
  refine j_iconst C (v := nI (0)) dX0_run_26 (by decide) ?_
  obtain ⟨F_4, eF_4⟩ : ∃ Z, upd F1 25 (nI (0)) = Z := ⟨_, rfl⟩
  refine x_put_written C X dX0_run_27 eF_4 ?_
  refine j_aload_n C dX0_run_30 rfl ?_
  refine j_iconst C (v := nI (0)) dX0_run_31 (by decide) ?_
  obtain ⟨F_5, eF_5⟩ : ∃ Z, upd F_4 22 (nI (0)) = Z := ⟨_, rfl⟩
  refine x_put_entered C X dX0_run_32 eF_5 ?_
  refine j_aload_n C dX0_run_35 rfl ?_
  refine j_iconst C (v := nI (0)) dX0_run_36 (by decide) ?_
  obtain ⟨F_6, eF_6⟩ : ∃ Z, upd F_5 21 (nI (0)) = Z := ⟨_, rfl⟩
  refine x_put_label C X dX0_run_37 eF_6 ?_
  refine j_iconst C (v := nI (0)) dX0_run_40 (by decide) ?_
  refine j_istore_n C (L' := [some (.ref (xh w)), some (.int (nI 0)), none]) dX0_run_41 (Nat.le_of_ble_eq_true rfl) rfl rfl ?_
  refine j_iconst C (v := nI (0)) dX0_run_42 (by decide) ?_
  refine j_istore_n C (L' := [some (.ref (xh w)), some (.int (nI 0)), some (.int (nI 0))]) dX0_run_43 (Nat.le_of_ble_eq_true rfl) rfl rfl ?_
  obtain ⟨c, n, len, o, cp, hO, hL, hB, hC⟩ := id hPrep
  have hA7 : ∀ k, k < 7 → A2 k = A k := fun k hk => (k1 k (by omega)).trans (hfA k (by omega) (by omega) (by omega) (by omega) (by omega) (by omega) (by omega) (by omega) (by omega))
  have hO2 : pOrd F_6 A2 c o := pOrd_fr (k1 5 (by decide)) (k1 6 (by decide)) (k1 9 (by decide)) (k1 10 (by decide)) (by rw [← eF_6, pk_un (by decide), ← eF_5, pk_un (by decide), ← eF_4, pk_un (by decide)]) hO
  have hL2 : pLoop F_6 A2 c n := pLoop_fr (k1 14 (by decide)) (k1 15 (by decide)) (by rw [← eF_6, pk_un (by decide), ← eF_5, pk_un (by decide), ← eF_4, pk_un (by decide)]) hL
  have hB2 : pBack A2 c n o := pBack_fr (k1 5 (by decide)) (k1 6 (by decide)) (Cov_fr (k1 14 (by decide)) (k1 15 (by decide))) hB
  have hC2 : pCode F_6 A2 c n len cp := by
    unfold pCode at *
    rw [k1 14 (by decide), k1 15 (by decide), k1 17 (by decide), k1 18 (by decide), k1 19 (by decide), show F_6 16 = F1 16 by rw [← eF_6, pk_un (by decide), ← eF_5, pk_un (by decide), ← eF_4, pk_un (by decide)]]
    exact hC
  have hph : rPh A2 n len cp 0 0 (cp 0 - 0 + 1) := .inl ⟨Nat.zero_le _, rfl⟩
  have h60 := rPh_len hC2 (show 0 < c from hO.1) hph
  refine x_run_loop C X F_6 A2 (opOK_congr (fun k hk => hA7 k (by omega)) hop) (fun j hj => by rw [hA7 0 (by decide)]; exact hsz j hj) (endOK_congr hA7 heo) hO2 hL2 hB2 hC2 (vrun A 300 0 (vz V)) (fun pc L r F7 A7 hd hnr hpost => ret pc L r F7 A7 hd hnr ?_) (cp 0 - 0 + 1 + 60 * 299) 0 0 0 0 299 (cp 0 - 0 + 1) F_6 A2 (vz V) (show 0 < c from hO.1) hph (Nat.le_refl _) (by omega) (by omega) (by rw [← eF_6, pk_us]) (by rw [← eF_6, pk_un (by decide), ← eF_5, pk_us]) (fun _ _ _ _ => rfl) (fun _ _ _ _ _ => rfl) ?_ (by show 0 + 3 * (299 + 1) < 2 ^ 20; decide) (by rw [vrun_congr hA7, hO.2.2.2.1])
  · obtain ⟨hr1, hr2, hr3, hr4⟩ := hpost
    refine ⟨hr1, hr2, fun k hk => by rw [hr3 k (by omega) (by omega) (by omega)]; exact hA7 k hk, ?_, Prep_frame (fun k h1 h2 => ?_) ?_ ?_ ?_ hPrep⟩
    · rw [hr4 7 (by decide) (by decide) (by decide) (by decide), ← eF_6, pk_un (by decide), ← eF_5, pk_un (by decide), ← eF_4, pk_un (by decide)]; exact h7
    · rw [hr3 k (by omega) (by omega) (by omega)]; exact k1 k (by omega)
    · rw [hr4 8 (by decide) (by decide) (by decide) (by decide), ← eF_6, pk_un (by decide), ← eF_5, pk_un (by decide), ← eF_4, pk_un (by decide)]
    · rw [hr4 13 (by decide) (by decide) (by decide) (by decide), ← eF_6, pk_un (by decide), ← eF_5, pk_un (by decide), ← eF_4, pk_un (by decide)]
    · rw [hr4 16 (by decide) (by decide) (by decide) (by decide), ← eF_6, pk_un (by decide), ← eF_5, pk_un (by decide), ← eF_4, pk_un (by decide)]
  · obtain ⟨v1, v2, v3, v4, v5⟩ := hV
    refine ⟨?_, ?_, fun k a => absurd a (Nat.not_lt_zero _), fun j a => k2 j a, ?_⟩
    · rw [k1 20 (by decide), hfA 20 (by decide) (by decide) (by decide) (by decide) (by decide) (by decide) (by decide) (by decide) (by decide)]; exact v1
    · rw [← eF_6, pk_un (by decide), ← eF_5, pk_un (by decide), ← eF_4, pk_us]; rfl
    · rw [← eF_6, pk_un (by decide), ← eF_5, pk_un (by decide), ← eF_4, pk_un (by decide), hfF 23 (by decide) (by decide) (by decide) (by decide)]; exact v5
set_option maxHeartbeats 4000000 in
set_option maxRecDepth 100000 in
theorem x_reachable (F : jF) (A : jA) (heo : endOK A) (hr : F 7 = nI 0 ∨ F 7 = nI 1) (hP : F 7 = nI 1 → Prep F A) : xMi yX0_reachable cX0_reachable 1 .int 4 [] F A (fun r F1 A1 => r = F1 8 ∧ Prep F1 A1 ∧ F1 7 = nI 1 ∧ (∀ k, k ≠ 9 → k ≠ 10 → k ≠ 11 → k ≠ 12 → k ≠ 14 → k ≠ 15 → k ≠ 17 → k ≠ 18 → k ≠ 19 → A1 k = A k) ∧ ∀ k, k ≠ 7 → k ≠ 8 → k ≠ 13 → k ≠ 16 → F1 k = F k) := by
  refine xMi.intro (fun h => [some (.ref (h))]) (by decide) rfl (fun _ => rfl) (fun _ => rfl) (fun _ => Nat.le_of_ble_eq_true rfl) ?_
  intro g w C X ret
  show J g (xP w F A) 0 [some (.ref (xh w))] []
  refine j_aload_n C dX0_reachable_0 rfl ?_
  refine x_callv C X (x_prepare F A heo hr hP) (lw_V q149 q151 qs1 q18 q152) (n := 0) (by decide +kernel) rfl (by decide) (by decide) dX0_reachable_1 rfl (Nat.le_of_ble_eq_true rfl) rfl (fun F1 A1 hPr => ?_)
  refine j_aload_n C dX0_reachable_4 rfl ?_
  refine x_get_count C X dX0_reachable_5 ?_
  exact ret _ _ _ _ _ dX0_reachable_8 rfl ⟨rfl, hPr⟩
end
section
/-! RelooperRunModel.reachable: a mask that grows round by round -/
theorem cnt_mono {M N : Nat → Bool} : ∀ n, (∀ b, b < n → M b = true → N b = true) → cnt M n ≤ cnt N n
  | 0, _ => Nat.le_refl _
  | n + 1, h => by
    have ih := cnt_mono n (fun b hb => h b (by omega))
    unfold cnt
    by_cases hm : M n = true
    · rw [if_pos hm, if_pos (h n (by omega) hm)]
      omega
    · rw [if_neg hm]
      split <;> omega
theorem cnt_bit (mk b : Nat) : cnt mk.testBit (b + 1) = cnt mk.testBit b + mk / 2 ^ b % 2 := by
  show cnt mk.testBit b + (if mk.testBit b = true then 1 else 0) = _
  by_cases h : mk.testBit b = true
  · rw [if_pos h, bit_1.mp h]
  · rw [if_neg h]
    have h1 : ¬ mk / 2 ^ b % 2 = 1 := fun e => h (bit_1.mpr e)
    omega
def rI (c : Nat) (o : Nat → Nat) (mk : Nat) : Prop := mk < 1024 ∧ mk.testBit 0 = true ∧ ∀ x, x < 10 → mk.testBit x = true → ∃ p, p < c ∧ o p = x
def rIn (A : jA) (c : Nat) (o : Nat → Nat) (mk0 b mk : Nat) : Prop := rI c o mk ∧ (cnt mk0.testBit 10 < cnt mk.testBit 10 ∨ (mk = mk0 ∧ ∀ a x, a < b → x < 10 → mk.testBit a = true → (A 5 a = nI x ∨ A 6 a = nI x) → mk.testBit x = true))
def rOut (c : Nat) (o : Nat → Nat) (k mk : Nat) : Prop := rI c o mk ∧ (cnt mk.testBit 10 = c ∨ k + 1 ≤ cnt mk.testBit 10)
section RC
variable {F : jF} {A : jA} {c mk mk0 mk1 b t u k : Nat} {o : Nat → Nat}
theorem rI_or (hO : pOrd F A c o) (h : rI c o mk) (hb : b < 10) (hm : mk.testBit b = true) (ht : t < 10) (he : A 5 b = nI t ∨ A 6 b = nI t) : rI c o (mk ||| 2 ^ t) ∧ (mk ||| 2 ^ t).testBit t = true ∧ (mk ||| 2 ^ t).testBit b = true ∧ (mk ||| 2 ^ t = mk ∨ cnt mk.testBit 10 < cnt (mk ||| 2 ^ t).testBit 10) := by
  obtain ⟨p, hp, hop⟩ := h.2.2 b hb hm
  have hq := hO.2.2.2.2.2.1 p t hp ht (by rw [hop]; exact he)
  refine ⟨⟨or_lt h.1 ht, by rw [bit_or, h.2.1]; rfl, fun x hx hm2 => ?_⟩, by rw [bit_or]; simp, by rw [bit_or, hm]; rfl, ?_⟩
  · rw [bit_or] at hm2
    by_cases e : t = x
    · subst e
      exact hq
    · rw [decide_eq_false e, Bool.or_false] at hm2
      exact h.2.2 x hx hm2
  · cases hbt : mk.testBit t with
    | true =>
      left
      apply Nat.eq_of_testBit_eq
      intro j
      rw [bit_or]
      by_cases e : t = j
      · subst e
        rw [hbt]
        rfl
      · rw [decide_eq_false e, Bool.or_false]
    | false =>
      right
      have := cnt_add (M := mk.testBit) (N := (mk ||| 2 ^ t).testBit) hbt (by rw [bit_or]; simp) 10 (fun b hb hne => by rw [bit_or, decide_eq_false (fun e => hne e.symm), Bool.or_false]) ht
      omega
theorem rIn_step (h : rIn A c o mk0 b mk) (h1 : rI c o mk1) (hg : mk1 = mk ∨ cnt mk.testBit 10 < cnt mk1.testBit 10) (he : ∀ x, x < 10 → mk1.testBit b = true → (A 5 b = nI x ∨ A 6 b = nI x) → mk1.testBit x = true) : rIn A c o mk0 (b + 1) mk1 := by
  refine ⟨h1, ?_⟩
  rcases h.2 with h2 | ⟨h2, h3⟩
  · left
    rcases hg with e | e
    · rw [e]
      exact h2
    · omega
  · rcases hg with e | e
    · right
      subst e
      refine ⟨h2, fun a x ha hx hm hor => ?_⟩
      by_cases e : a = b
      · subst e
        exact he x hx hm hor
      · exact h3 a x (by omega) hx hm hor
    · left
      rw [← h2]
      exact e
theorem rIn_no (h : rIn A c o mk0 b mk) (hb : mk.testBit b = false) : rIn A c o mk0 (b + 1) mk := rIn_step h h.1 (.inl rfl) (fun x hx hm => by rw [hb] at hm; cases hm)
theorem rIn_0 (h : rIn A c o mk0 b mk) (e5 : A 5 b = -1) (e6 : A 6 b = -1) : rIn A c o mk0 (b + 1) mk := rIn_step h h.1 (.inl rfl) (fun x hx hm hor => by
  rcases hor with q | q
  · exact absurd (q.symm.trans e5) (nI_ne_neg (by omega))
  · exact absurd (q.symm.trans e6) (nI_ne_neg (by omega)))
theorem rIn_1 (hO : pOrd F A c o) (h : rIn A c o mk0 b mk) (hb : b < 10) (hm : mk.testBit b = true) (ht : t < 10) (e5 : A 5 b = nI t) (e6 : A 6 b = -1) : rIn A c o mk0 (b + 1) (mk ||| 2 ^ t) := by
  obtain ⟨k1, k2, k3, k4⟩ := rI_or hO h.1 hb hm ht (.inl e5)
  refine rIn_step h k1 k4 (fun x hx _ hor => ?_)
  rcases hor with q | q
  · rw [show x = t from nI_inj (by omega) (by omega) (q.symm.trans e5)]
    exact k2
  · exact absurd (q.symm.trans e6) (nI_ne_neg (by omega))
theorem rIn_2 (hO : pOrd F A c o) (h : rIn A c o mk0 b mk) (hb : b < 10) (hm : mk.testBit b = true) (ht : t < 10) (hu : u < 10) (e5 : A 5 b = nI t) (e6 : A 6 b = nI u) : rIn A c o mk0 (b + 1) (mk ||| 2 ^ t ||| 2 ^ u) := by
  obtain ⟨k1, k2, k3, k4⟩ := rI_or hO h.1 hb hm ht (.inl e5)
  obtain ⟨l1, l2, l3, l4⟩ := rI_or hO k1 hb k3 hu (.inr e6)
  refine rIn_step h l1 ?_ (fun x hx _ hor => ?_)
  · rcases k4 with k4 | k4
    · rcases l4 with l4 | l4
      · exact .inl (l4.trans k4)
      · right
        rw [k4] at l4 ⊢
        exact l4
    · rcases l4 with l4 | l4
      · right
        rw [l4]
        exact k4
      · right
        omega
  · rcases hor with q | q
    · rw [show x = t from nI_inj (by omega) (by omega) (q.symm.trans e5), bit_or, k2]
      rfl
    · rw [show x = u from nI_inj (by omega) (by omega) (q.symm.trans e6)]
      exact l2
theorem rIn_start (h : rI c o mk) : rIn A c o mk 0 mk := ⟨h, .inr ⟨rfl, fun a x ha => absurd ha (Nat.not_lt_zero _)⟩⟩
theorem rOut_next (hO : pOrd F A c o) (h : rOut c o k mk0) (hI : rIn A c o mk0 10 mk) : rOut c o (k + 1) mk := by
  obtain ⟨M, hM1, hM2⟩ := hO.2.2.2.2.2.2.2
  have hle : cnt mk.testBit 10 ≤ c := by
    rw [← hM1]
    exact cnt_mono 10 (fun b hb hm => (hM2 b hb).mpr (hI.1.2.2 b hb hm))
  rcases hI.2 with h2 | ⟨h2, h3⟩
  · refine ⟨hI.1, .inr ?_⟩
    rcases h.2 with h4 | h4
    · omega
    · omega
  · refine ⟨hI.1, .inl ?_⟩
    rw [← hM1]
    refine cnt_congr 10 (fun b hb => ?_)
    refine Bool.eq_iff_iff.mpr ⟨fun hm => (hM2 b hb).mpr (hI.1.2.2 b hb hm), fun hm => ?_⟩
    obtain ⟨p, hp, e⟩ := (hM2 b hb).mp hm
    rw [← e]
    exact hO.2.2.2.2.2.2.1 (fun x => mk.testBit x = true) hI.1.2.1 (fun a x ha hx hT hor => h3 a x ha hx hT hor) p hp
theorem rOut_0 (hO : pOrd F A c o) : rOut c o 0 1 := by
  refine ⟨⟨by decide, by decide, fun x hx h => ⟨0, hO.1, ?_⟩⟩, .inr (by decide)⟩
  rw [show (1 : Nat) = 2 ^ 0 from rfl, Nat.testBit_two_pow] at h
  rw [hO.2.2.2.1]
  exact of_decide_eq_true h
theorem rOut_end (h : rOut c o 10 mk) : cnt mk.testBit 10 = c := by
  rcases h.2 with h | h
  · exact h
  · have := cnt_le mk.testBit 10
    omega
end RC
set_option maxHeartbeats 4000000 in
set_option maxRecDepth 100000 in
theorem m_rc_in {g : jG} {w : xT} {F : jF} {A : jA} (C : jC g cX1_reachable 4) (X : mX g w 0) {F0 : jF} {A0 : jA} {c : Nat} {o : Nat → Nat} (hg : gRel A0 A) (hO : pOrd F0 A0 c o) (mk0 k : Nat) (hend : ∀ mk : Nat, rIn A0 c o mk0 10 mk → J g (mP w F A) 78 [some (.ref (xh w)), some (.int (nI mk)), some (.int (nI k)), some (.int (nI 10))] []) :
    ∀ (n b mk : Nat), b + n = 10 → rIn A0 c o mk0 b mk → J g (mP w F A) 12 [some (.ref (xh w)), some (.int (nI mk)), some (.int (nI k)), some (.int (nI b))] [] := by
  intro n
  induction n with
  | zero =>
    intro b mk hb hI
    obtain rfl : b = 10 := by omega
    refine j_iload_n C dX1_reachable_12 rfl ?_
    refine j_bipush C (v := nI (10)) dX1_reachable_13 (by decide) ?_
    refine j_icmp_ge C 78 dX1_reachable_15 (by decide) (fun c_15 => ?_) (fun c_15 => ?_)
    · skip
      have c_15 : 10 ≤ 10 := (nI_leI (a := 10) (b := 10) (by omega) (by omega)).mp c_15
      exact hend mk hI
    · skip
      have c_15 : ¬ 10 ≤ 10 := fun hh => c_15 ((nI_leI (a := 10) (b := 10) (by omega) (by omega)).mpr hh)
      omega
  | succ n ih =>
    intro b mk hb hI
    have hmk := hI.1.1
    refine j_iload_n C dX1_reachable_12 rfl ?_
    refine j_bipush C (v := nI (10)) dX1_reachable_13 (by decide) ?_
    refine j_icmp_ge C 78 dX1_reachable_15 (by decide) (fun c_15 => ?_) (fun c_15 => ?_)
    · skip
      have c_15 : 10 ≤ b := (nI_leI (a := 10) (b := b) (by omega) (by omega)).mp c_15
      omega
    · skip
      have c_15 : ¬ 10 ≤ b := fun hh => c_15 ((nI_leI (a := 10) (b := b) (by omega) (by omega)).mpr hh)
      refine j_iload_n C dX1_reachable_18 rfl ?_
      refine j_iload_n C dX1_reachable_19 rfl ?_
      refine j_ishr C (v := nI (mk / 2 ^ b)) dX1_reachable_20 (nI_shr (by omega) (by omega)) ?_
      refine j_iconst C (v := nI (1)) dX1_reachable_21 (by decide) ?_
      refine j_iand C (v := nI (mk / 2 ^ b % 2)) dX1_reachable_22 (nI_bit (Nat.lt_of_le_of_lt (Nat.div_le_self _ _) (by omega))) ?_
      refine j_iconst C (v := nI (1)) dX1_reachable_23 (by decide) ?_
      refine j_icmp_ne C 72 dX1_reachable_24 (by decide) (fun c_24 => ?_) (fun c_24 => ?_)
      · skip
        have c_24 : ¬ (mk / 2 ^ b % 2 = 1) := fun hh => c_24 ((nI_eq (a := mk / 2 ^ b % 2) (b := 1) (by omega) (by omega)).mpr hh)
        refine j_iinc C (v := nI (b + 1)) (L' := [some (.ref (xh w)), some (.int (nI mk)), some (.int (nI k)), some (.int (nI (b + 1)))]) dX1_reachable_72 rfl (nI_1 _) (Nat.le_of_ble_eq_true rfl) rfl rfl ?_
        refine j_goto C 12 dX1_reachable_75 (by decide) ?_
        exact ih (b + 1) mk (by omega) (rIn_no hI (by
          cases hbt : mk.testBit b with
          | false => rfl
          | true => exact absurd (bit_1.mp hbt) c_24))
      · skip
        have c_24 : mk / 2 ^ b % 2 = 1 := (nI_eq (a := mk / 2 ^ b % 2) (b := 1) (by omega) (by omega)).mp c_24
        rcases hg.2 b (by omega) with ⟨e4, e4x, e5, e6⟩ | ⟨t, ht, e4, e4x, e5, e6, e6y⟩ | ⟨v, t, u, hv, ht, hu, e4, e4x, e5y, e5, e6y, e6, e7⟩
        · skip
          refine j_aload_n C dX1_reachable_27 rfl ?_
          refine m_get_ends C X dX1_reachable_28 ?_
          refine j_iload_n C dX1_reachable_31 rfl ?_
          refine m_ald_ends (v := nI (0)) (b) C X dX1_reachable_32 rfl (by omega) (e4) ?_
          refine j_if_le C 72 dX1_reachable_33 (by decide) (fun c_33 => ?_) (fun c_33 => ?_)
          · skip
            have c_33 : 0 ≤ 0 := (nI_leI (a := 0) (b := 0) (by omega) (by omega)).mp c_33
            refine j_iinc C (v := nI (b + 1)) (L' := [some (.ref (xh w)), some (.int (nI mk)), some (.int (nI k)), some (.int (nI (b + 1)))]) dX1_reachable_72 rfl (nI_1 _) (Nat.le_of_ble_eq_true rfl) rfl rfl ?_
            refine j_goto C 12 dX1_reachable_75 (by decide) ?_
            exact ih (b + 1) mk (by omega) (rIn_0 hI e5 e6)
          · skip
            have c_33 : ¬ 0 ≤ 0 := fun hh => c_33 ((nI_leI (a := 0) (b := 0) (by omega) (by omega)).mpr hh)
            exact absurd (Nat.le_refl 0) c_33
        · skip
          refine j_aload_n C dX1_reachable_27 rfl ?_
          refine m_get_ends C X dX1_reachable_28 ?_
          refine j_iload_n C dX1_reachable_31 rfl ?_
          refine m_ald_ends (v := nI (1)) (b) C X dX1_reachable_32 rfl (by omega) (e4) ?_
          refine j_if_le C 72 dX1_reachable_33 (by decide) (fun c_33 => ?_) (fun c_33 => ?_)
          · skip
            have c_33 : 1 ≤ 0 := (nI_leI (a := 1) (b := 0) (by omega) (by omega)).mp c_33
            omega
          · skip
            have c_33 : ¬ 1 ≤ 0 := fun hh => c_33 ((nI_leI (a := 1) (b := 0) (by omega) (by omega)).mpr hh)
            refine j_iload_n C dX1_reachable_36 rfl ?_
            refine j_iconst C (v := nI (1)) dX1_reachable_37 (by decide) ?_
            refine j_aload_n C dX1_reachable_38 rfl ?_
            refine m_get_thens C X dX1_reachable_39 ?_
            refine j_iload_n C dX1_reachable_42 rfl ?_
            refine m_ald_thens (v := nI (t)) (b) C X dX1_reachable_43 rfl (by omega) (e6y) ?_
            refine j_ishl C (v := nI (2 ^ t)) dX1_reachable_44 (nI_shl (by omega)) ?_
            refine j_ior C (v := nI (mk ||| 2 ^ t)) dX1_reachable_45 (nI_or _ _) ?_
            refine j_istore_n C (L' := [some (.ref (xh w)), some (.int (nI (mk ||| 2 ^ t))), some (.int (nI k)), some (.int (nI b))]) dX1_reachable_46 (Nat.le_of_ble_eq_true rfl) rfl rfl ?_
            refine j_aload_n C dX1_reachable_47 rfl ?_
            refine m_get_ends C X dX1_reachable_48 ?_
            refine j_iload_n C dX1_reachable_51 rfl ?_
            refine m_ald_ends (v := nI (1)) (b) C X dX1_reachable_52 rfl (by omega) (e4) ?_
            refine j_iconst C (v := nI (2)) dX1_reachable_53 (by decide) ?_
            refine j_icmp_ne C 70 dX1_reachable_54 (by decide) (fun c_54 => ?_) (fun c_54 => ?_)
            · skip
              have c_54 : ¬ (1 = 2) := fun hh => c_54 ((nI_eq (a := 1) (b := 2) (by omega) (by omega)).mpr hh)
              refine j_iload_n C dX1_reachable_70 rfl ?_
              refine j_istore_n C (L' := [some (.ref (xh w)), some (.int (nI (mk ||| 2 ^ t))), some (.int (nI k)), some (.int (nI b))]) dX1_reachable_71 (Nat.le_of_ble_eq_true rfl) rfl rfl ?_
              refine j_iinc C (v := nI (b + 1)) (L' := [some (.ref (xh w)), some (.int (nI (mk ||| 2 ^ t))), some (.int (nI k)), some (.int (nI (b + 1)))]) dX1_reachable_72 rfl (nI_1 _) (Nat.le_of_ble_eq_true rfl) rfl rfl ?_
              refine j_goto C 12 dX1_reachable_75 (by decide) ?_
              exact ih (b + 1) (mk ||| 2 ^ t) (by omega) (rIn_1 hO hI (by omega) (bit_1.mpr c_24) ht e5 e6)
            · skip
              have c_54 : 1 = 2 := (nI_eq (a := 1) (b := 2) (by omega) (by omega)).mp c_54
              omega
        · skip
          refine j_aload_n C dX1_reachable_27 rfl ?_
          refine m_get_ends C X dX1_reachable_28 ?_
          refine j_iload_n C dX1_reachable_31 rfl ?_
          refine m_ald_ends (v := nI (2)) (b) C X dX1_reachable_32 rfl (by omega) (e4) ?_
          refine j_if_le C 72 dX1_reachable_33 (by decide) (fun c_33 => ?_) (fun c_33 => ?_)
          · skip
            have c_33 : 2 ≤ 0 := (nI_leI (a := 2) (b := 0) (by omega) (by omega)).mp c_33
            omega
          · skip
            have c_33 : ¬ 2 ≤ 0 := fun hh => c_33 ((nI_leI (a := 2) (b := 0) (by omega) (by omega)).mpr hh)
            refine j_iload_n C dX1_reachable_36 rfl ?_
            refine j_iconst C (v := nI (1)) dX1_reachable_37 (by decide) ?_
            refine j_aload_n C dX1_reachable_38 rfl ?_
            refine m_get_thens C X dX1_reachable_39 ?_
            refine j_iload_n C dX1_reachable_42 rfl ?_
            refine m_ald_thens (v := nI (t)) (b) C X dX1_reachable_43 rfl (by omega) (e6y) ?_
            refine j_ishl C (v := nI (2 ^ t)) dX1_reachable_44 (nI_shl (by omega)) ?_
            refine j_ior C (v := nI (mk ||| 2 ^ t)) dX1_reachable_45 (nI_or _ _) ?_
            refine j_istore_n C (L' := [some (.ref (xh w)), some (.int (nI (mk ||| 2 ^ t))), some (.int (nI k)), some (.int (nI b))]) dX1_reachable_46 (Nat.le_of_ble_eq_true rfl) rfl rfl ?_
            refine j_aload_n C dX1_reachable_47 rfl ?_
            refine m_get_ends C X dX1_reachable_48 ?_
            refine j_iload_n C dX1_reachable_51 rfl ?_
            refine m_ald_ends (v := nI (2)) (b) C X dX1_reachable_52 rfl (by omega) (e4) ?_
            refine j_iconst C (v := nI (2)) dX1_reachable_53 (by decide) ?_
            refine j_icmp_ne C 70 dX1_reachable_54 (by decide) (fun c_54 => ?_) (fun c_54 => ?_)
            · skip
              have c_54 : ¬ (2 = 2) := fun hh => c_54 ((nI_eq (a := 2) (b := 2) (by omega) (by omega)).mpr hh)
              exact absurd rfl c_54
            · skip
              have c_54 : 2 = 2 := (nI_eq (a := 2) (b := 2) (by omega) (by omega)).mp c_54
              refine j_iload_n C dX1_reachable_57 rfl ?_
              refine j_iconst C (v := nI (1)) dX1_reachable_58 (by decide) ?_
              refine j_aload_n C dX1_reachable_59 rfl ?_
              refine m_get_elses C X dX1_reachable_60 ?_
              refine j_iload_n C dX1_reachable_63 rfl ?_
              refine m_ald_elses (v := nI (u)) (b) C X dX1_reachable_64 rfl (by omega) (e7) ?_
              refine j_ishl C (v := nI (2 ^ u)) dX1_reachable_65 (nI_shl (by omega)) ?_
              refine j_ior C (v := nI (mk ||| 2 ^ t ||| 2 ^ u)) dX1_reachable_66 (nI_or _ _) ?_
              refine j_goto C 71 dX1_reachable_67 (by decide) ?_
              refine j_istore_n C (L' := [some (.ref (xh w)), some (.int (nI (mk ||| 2 ^ t ||| 2 ^ u))), some (.int (nI k)), some (.int (nI b))]) dX1_reachable_71 (Nat.le_of_ble_eq_true rfl) rfl rfl ?_
              refine j_iinc C (v := nI (b + 1)) (L' := [some (.ref (xh w)), some (.int (nI (mk ||| 2 ^ t ||| 2 ^ u))), some (.int (nI k)), some (.int (nI (b + 1)))]) dX1_reachable_72 rfl (nI_1 _) (Nat.le_of_ble_eq_true rfl) rfl rfl ?_
              refine j_goto C 12 dX1_reachable_75 (by decide) ?_
              exact ih (b + 1) (mk ||| 2 ^ t ||| 2 ^ u) (by omega) (rIn_2 hO hI (by omega) (bit_1.mpr c_24) ht hu e5 e6)
set_option maxHeartbeats 4000000 in
set_option maxRecDepth 100000 in
theorem m_rc_out {g : jG} {w : xT} {F : jF} {A : jA} (C : jC g cX1_reachable 4) (X : mX g w 0) {F0 : jF} {A0 : jA} {c : Nat} {o : Nat → Nat} (hg : gRel A0 A) (hO : pOrd F0 A0 c o) (hend : ∀ mk : Nat, mk < 1024 → cnt mk.testBit 10 = c → J g (mP w F A) 84 [some (.ref (xh w)), some (.int (nI mk)), some (.int (nI 10)), none] []) :
    ∀ (n k mk : Nat), k + n = 10 → rOut c o k mk → J g (mP w F A) 4 [some (.ref (xh w)), some (.int (nI mk)), some (.int (nI k)), none] [] := by
  intro n
  induction n with
  | zero =>
    intro k mk hk hI
    obtain rfl : k = 10 := by omega
    refine j_iload_n C dX1_reachable_4 rfl ?_
    refine j_bipush C (v := nI (10)) dX1_reachable_5 (by decide) ?_
    refine j_icmp_ge C 84 dX1_reachable_7 (by decide) (fun c_7 => ?_) (fun c_7 => ?_)
    · skip
      have c_7 : 10 ≤ 10 := (nI_leI (a := 10) (b := 10) (by omega) (by omega)).mp c_7
      exact hend mk hI.1.1 (rOut_end hI)
    · skip
      have c_7 : ¬ 10 ≤ 10 := fun hh => c_7 ((nI_leI (a := 10) (b := 10) (by omega) (by omega)).mpr hh)
      omega
  | succ n ih =>
    intro k mk hk hI
    refine j_iload_n C dX1_reachable_4 rfl ?_
    refine j_bipush C (v := nI (10)) dX1_reachable_5 (by decide) ?_
    refine j_icmp_ge C 84 dX1_reachable_7 (by decide) (fun c_7 => ?_) (fun c_7 => ?_)
    · skip
      have c_7 : 10 ≤ k := (nI_leI (a := 10) (b := k) (by omega) (by omega)).mp c_7
      omega
    · skip
      have c_7 : ¬ 10 ≤ k := fun hh => c_7 ((nI_leI (a := 10) (b := k) (by omega) (by omega)).mpr hh)
      refine j_iconst C (v := nI (0)) dX1_reachable_10 (by decide) ?_
      refine j_istore_n C (L' := [some (.ref (xh w)), some (.int (nI mk)), some (.int (nI k)), some (.int (nI 0))]) dX1_reachable_11 (Nat.le_of_ble_eq_true rfl) rfl rfl ?_
      refine m_rc_in C X hg hO mk k (fun mk1 hI1 => ?_) 10 0 mk (by omega) (rIn_start hI.1)
      refine j_iinc C (v := nI (k + 1)) (L' := [some (.ref (xh w)), some (.int (nI mk1)), some (.int (nI (k + 1))), some (.int (nI 10))]) dX1_reachable_78 rfl (nI_1 _) (Nat.le_of_ble_eq_true rfl) rfl rfl ?_
      refine j_goto C 4 dX1_reachable_81 (by decide) ?_
      refine j_forget [true, true, true, false] rfl rfl ?_
      exact ih (k + 1) mk1 (by omega) (rOut_next hO hI hI1)
set_option maxHeartbeats 4000000 in
set_option maxRecDepth 100000 in
theorem m_rc_cnt {g : jG} {w : xT} {F : jF} {A : jA} (C : jC g cX1_reachable 4) (X : mX g w 0) (mk : Nat) (hmk : mk < 1024) (hend : J g (mP w F A) 108 [some (.ref (xh w)), some (.int (nI mk)), some (.int (nI (cnt mk.testBit 10))), some (.int (nI 10))] []) :
    ∀ (n b : Nat), b + n = 10 → J g (mP w F A) 88 [some (.ref (xh w)), some (.int (nI mk)), some (.int (nI (cnt mk.testBit b))), some (.int (nI b))] [] := by
  intro n
  induction n with
  | zero =>
    intro b hb
    obtain rfl : b = 10 := by omega
    refine j_iload_n C dX1_reachable_88 rfl ?_
    refine j_bipush C (v := nI (10)) dX1_reachable_89 (by decide) ?_
    refine j_icmp_ge C 108 dX1_reachable_91 (by decide) (fun c_91 => ?_) (fun c_91 => ?_)
    · skip
      have c_91 : 10 ≤ 10 := (nI_leI (a := 10) (b := 10) (by omega) (by omega)).mp c_91
      exact hend
    · skip
      have c_91 : ¬ 10 ≤ 10 := fun hh => c_91 ((nI_leI (a := 10) (b := 10) (by omega) (by omega)).mpr hh)
      omega
  | succ n ih =>
    intro b hb
    refine j_iload_n C dX1_reachable_88 rfl ?_
    refine j_bipush C (v := nI (10)) dX1_reachable_89 (by decide) ?_
    refine j_icmp_ge C 108 dX1_reachable_91 (by decide) (fun c_91 => ?_) (fun c_91 => ?_)
    · skip
      have c_91 : 10 ≤ b := (nI_leI (a := 10) (b := b) (by omega) (by omega)).mp c_91
      omega
    · skip
      have c_91 : ¬ 10 ≤ b := fun hh => c_91 ((nI_leI (a := 10) (b := b) (by omega) (by omega)).mpr hh)
      refine j_iload_n C dX1_reachable_94 rfl ?_
      refine j_iload_n C dX1_reachable_95 rfl ?_
      refine j_iload_n C dX1_reachable_96 rfl ?_
      refine j_ishr C (v := nI (mk / 2 ^ b)) dX1_reachable_97 (nI_shr (by omega) (by omega)) ?_
      refine j_iconst C (v := nI (1)) dX1_reachable_98 (by decide) ?_
      refine j_iand C (v := nI (mk / 2 ^ b % 2)) dX1_reachable_99 (nI_bit (Nat.lt_of_le_of_lt (Nat.div_le_self _ _) (by omega))) ?_
      refine j_iadd C (v := nI (cnt mk.testBit (b + 1))) dX1_reachable_100 (by rw [cnt_bit]; exact nI_add _ _) ?_
      refine j_istore_n C (L' := [some (.ref (xh w)), some (.int (nI mk)), some (.int (nI (cnt mk.testBit (b + 1)))), some (.int (nI b))]) dX1_reachable_101 (Nat.le_of_ble_eq_true rfl) rfl rfl ?_
      refine j_iinc C (v := nI (b + 1)) (L' := [some (.ref (xh w)), some (.int (nI mk)), some (.int (nI (cnt mk.testBit (b + 1)))), some (.int (nI (b + 1)))]) dX1_reachable_102 rfl (nI_1 _) (Nat.le_of_ble_eq_true rfl) rfl rfl ?_
      refine j_goto C 88 dX1_reachable_105 (by decide) ?_
      exact ih (b + 1) (by omega)
set_option maxHeartbeats 4000000 in
set_option maxRecDepth 100000 in
theorem m_reachable (F : jF) (A : jA) (F0 : jF) (A0 : jA) (c : Nat) (o : Nat → Nat) (hg : gRel A0 A) (hO : pOrd F0 A0 c o)  : mMi yX1_reachable cX1_reachable 4 .int 0 [] F A (fun r F1 A1 => F1 = F ∧ A1 = A ∧ r = nI c) := by
  refine mMi.intro (fun h => [some (.ref (h)), none, none, none]) (by decide) rfl (fun _ => rfl) (fun _ => rfl) (fun _ => Nat.le_of_ble_eq_true rfl) ?_
  intro g w C X ret
  show J g (mP w F A) 0 [some (.ref (xh w)), none, none, none] []
  refine j_iconst C (v := nI (1)) dX1_reachable_0 (by decide) ?_
  refine j_istore_n C (L' := [some (.ref (xh w)), some (.int (nI 1)), none, none]) dX1_reachable_1 (Nat.le_of_ble_eq_true rfl) rfl rfl ?_
  refine j_iconst C (v := nI (0)) dX1_reachable_2 (by decide) ?_
  refine j_istore_n C (L' := [some (.ref (xh w)), some (.int (nI 1)), some (.int (nI 0)), none]) dX1_reachable_3 (Nat.le_of_ble_eq_true rfl) rfl rfl ?_
  refine m_rc_out C X hg hO (fun mk hmk hcn => ?_) 10 0 1 (by omega) (rOut_0 hO)
  refine j_iconst C (v := nI (0)) dX1_reachable_84 (by decide) ?_
  refine j_istore_n C (L' := [some (.ref (xh w)), some (.int (nI mk)), some (.int (nI 0)), none]) dX1_reachable_85 (Nat.le_of_ble_eq_true rfl) rfl rfl ?_
  refine j_iconst C (v := nI (0)) dX1_reachable_86 (by decide) ?_
  refine j_istore_n C (L' := [some (.ref (xh w)), some (.int (nI mk)), some (.int (nI 0)), some (.int (nI 0))]) dX1_reachable_87 (Nat.le_of_ble_eq_true rfl) rfl rfl ?_
  refine m_rc_cnt C X mk hmk ?_ 10 0 (by omega)
  refine j_iload_n C dX1_reachable_108 rfl ?_
  exact ret _ _ _ _ _ dX1_reachable_109 rfl ⟨rfl, rfl, by rw [hcn]⟩
end
section
/-! both objects hold the same graph and the same run: what the law's loop keeps -/
def gRow (A B : jA) (b : Nat) : Prop :=
  (B 4 b = nI 0 ∧ A 4 b = -1 ∧ A 5 b = -1 ∧ A 6 b = -1) ∨ (∃ t, t < 10 ∧ B 4 b = nI 1 ∧ A 4 b = -1 ∧ A 5 b = nI t ∧ A 6 b = -1 ∧ B 6 b = nI t) ∨
  (∃ v t u, v < 4 ∧ t < 10 ∧ u < 10 ∧ B 4 b = nI 2 ∧ A 4 b = nI v ∧ B 5 b = nI v ∧ A 5 b = nI t ∧ B 6 b = nI t ∧ A 6 b = nI u ∧ B 7 b = nI u)
theorem gRow_congr {A A1 B B1 : jA} {b : Nat} (h4 : A1 4 b = A 4 b) (h5 : A1 5 b = A 5 b) (h6 : A1 6 b = A 6 b) (k4 : B1 4 b = B 4 b) (k5 : B1 5 b = B 5 b) (k6 : B1 6 b = B 6 b) (k7 : B1 7 b = B 7 b) (h : gRow A B b) : gRow A1 B1 b := by
  unfold gRow at *
  rw [h4, h5, h6, k4, k5, k6, k7]
  exact h
theorem gRel_end {A B : jA} (h : gRel A B) : endOK A := by
  intro b hb
  rcases h.2 b hb with ⟨-, e4, e5, e6⟩ | ⟨t, ht, -, e4, e5, e6, -⟩ | ⟨v, t, u, hv, ht, hu, -, e4, -, e5, -, e6, -⟩
  · exact ⟨.inl e4, .inl e5, .inl e6⟩
  · exact ⟨.inl e4, .inr ⟨t, ht, e5⟩, .inl e6⟩
  · exact ⟨.inr ⟨v, hv, e4⟩, .inr ⟨t, ht, e5⟩, .inr ⟨u, hu, e6⟩⟩
theorem gRel_congr {A A1 B B1 : jA} (hA : ∀ k, k < 7 → A1 k = A k) (hB : ∀ k, k < 8 → B1 k = B k) (h : gRel A B) : gRel A1 B1 := by
  refine ⟨fun k hk => by rw [hA k (by omega), hB k (by omega)]; exact h.1 k hk, fun b hb => ?_⟩
  exact gRow_congr (A := A) (B := B) (by rw [hA 4 (by decide)]) (by rw [hA 5 (by decide)]) (by rw [hA 6 (by decide)]) (by rw [hB 4 (by decide)]) (by rw [hB 5 (by decide)]) (by rw [hB 6 (by decide)]) (by rw [hB 7 (by decide)]) (h.2 b hb)
theorem xAbs_fr {F F1 : jF} {A A1 : jA} {V : aV} (h20 : A1 20 = A 20) (h24 : A1 24 = A 24) (h26 : A1 26 = A 26) (f25 : F1 25 = F 25) (f23 : F1 23 = F 23) (h : xAbs F A V) : xAbs F1 A1 V := by
  unfold xAbs at *
  rw [h20, h24, h26, f25, f23]
  exact h
theorem mAbs_fr {F F1 : jF} {A A1 : jA} {V : aV} (h8 : A1 8 = A 8) (h10 : A1 10 = A 10) (h11 : A1 11 = A 11) (f9 : F1 9 = F 9) (f12 : F1 12 = F 12) (h : mAbs F A V) : mAbs F1 A1 V := by
  unfold mAbs at *
  rw [h8, h10, h11, f9, f12]
  exact h
def Rel (F : jF) (A : jA) (G : jF) (B : jA) : Prop := ∃ V : aV, V.2.1 < 2 ^ 20 ∧ szOK A ∧ opOK A ∧ gRel A B ∧ (F 7 = nI 0 ∨ F 7 = nI 1) ∧ (F 7 = nI 1 → Prep F A) ∧ xAbs F A V ∧ mAbs G B V
section RL
variable {F F1 G G1 : jF} {A A1 B B1 : jA}
theorem Rel_init (hF : F = upd (fun _ => 0) 23 (-1)) (hA : ∀ k, k ≠ 4 → k ≠ 5 → k ≠ 6 → A k = fun _ => 0) (hE : ∀ j, j < 10 → A 4 j = -1 ∧ A 5 j = -1 ∧ A 6 j = -1) (hG : G = upd (fun _ => 0) 12 (-1)) (hB : ∀ k, B k = fun _ => 0) : Rel F A G B := by
  have z : (0 : Int32) = nI 0 := nI_0.symm
  refine ⟨(fun _ => 0, 0, fun _ => 0, fun _ => 0, -1), by decide, fun j hj => ⟨0, by omega, ?_⟩, fun i hi => ⟨⟨0, by omega, ?_⟩, ⟨0, by omega, ?_⟩, .inl (.inl ?_)⟩, ⟨fun k hk => ?_, fun b hb => ?_⟩, .inl ?_, fun h => ?_, ⟨hA 20 (by decide) (by decide) (by decide), ?_, fun k hk => absurd hk (Nat.not_lt_zero _), fun j hj => ?_, ?_⟩, ⟨hB 8, ?_, fun j _ hj => absurd hj (Nat.not_lt_zero _), fun j hj => ?_, ?_⟩⟩
  · rw [hA 0 (by decide) (by decide) (by decide)]; exact z
  · rw [hA 1 (by decide) (by decide) (by decide)]; exact z
  · rw [hA 2 (by decide) (by decide) (by decide)]; exact z
  · rw [hA 1 (by decide) (by decide) (by decide)]; exact (by decide : (0 : Int32) < nI 1)
  · rw [hA k (by omega) (by omega) (by omega), hB k]
  · exact .inl ⟨by rw [hB 4]; exact z, (hE b hb).1, (hE b hb).2.1, (hE b hb).2.2⟩
  · rw [hF, pk_un (by decide)]; exact z
  · rw [hF, pk_un (by decide)] at h
    exact absurd h (by decide)
  · rw [hF, pk_un (by decide)]; exact z
  · rw [hA 24 (by decide) (by decide) (by decide)]
  · rw [hF, pk_us]
  · rw [hG, pk_un (by decide)]; exact z
  · rw [hB 11]
  · rw [hG, pk_us]
theorem asgA_is {A : jA} {j s : Nat} {op v w : Int32} (hj : j < 10) (hs : s < 3) (h0 : A 0 j = nI s) (h2 : inb op 6 = true) (h3 : inb v 4 = true) (h4 : (op < nI 1 ∨ nI 3 < op) ∨ inb w 4 = true) :
    asgA A (nI j) op v w 0 = upd (A 0) j (nI (s + 1)) ∧ asgA A (nI j) op v w 1 = upd (A 1) (j * 3 + s) op ∧ asgA A (nI j) op v w 2 = upd (A 2) (j * 3 + s) v ∧ asgA A (nI j) op v w 3 = upd (A 3) (j * 3 + s) w ∧ ∀ k, 4 ≤ k → asgA A (nI j) op v w k = A k := by
  rw [(asgA_yes hj hs h0 h2 h3 h4).2]
  refine ⟨up_s, ?_, ?_, ?_, fun k hk => ?_⟩
  · rw [up_n (by decide), up_n (by decide), up_n (by decide), up_s]
  · rw [up_n (by decide), up_n (by decide), up_s]
  · rw [up_n (by decide), up_s]
  · rw [up_n (by omega), up_n (by omega), up_n (by omega), up_n (by omega)]
theorem Rel_asg {b op v w : Int32} (h : Rel F A G B) : asgC b op v w (A 0 b.toNatClampNeg) = asgC b op v w (B 0 b.toNatClampNeg) ∧ Rel F (asgA A b op v w) G (asgA B b op v w) := by
  obtain ⟨V, hn, hs, ho, hg, h7, hP, hx, hm⟩ := h
  have e0 : B 0 = A 0 := hg.1 0 (by decide)
  refine ⟨by rw [e0], ?_⟩
  by_cases hp : 0 < asgC b op v w (A 0 b.toNatClampNeg)
  · obtain ⟨p1, p2, p3, p4, p5⟩ := asgC_pos hp
    obtain ⟨j, hj, rfl⟩ := inb_in (by decide) p1
    obtain ⟨s, hs3, es⟩ := hs j hj
    rw [nI_clamp (by omega), es] at p5
    have hs3 : s < 3 := (nI_ltI (by omega) (by omega)).mp p5
    obtain ⟨a0, a1, a2, a3, a4⟩ := asgA_is (A := A) hj hs3 es p2 p3 p4
    obtain ⟨b0, b1, b2, b3, b4⟩ := asgA_is (A := B) hj hs3 (by rw [e0]; exact es) p2 p3 p4
    generalize asgA A (nI j) op v w = A1 at *
    generalize asgA B (nI j) op v w = B1 at *
    refine ⟨V, hn, fun i hi => ?_, fun i hi => ?_, ⟨fun k hk => ?_, fun b hb => ?_⟩, h7, fun h => Prep_frame (fun k h1 h2 => a4 k (by omega)) rfl rfl rfl (hP h), xAbs_fr (a4 20 (by decide)) (a4 24 (by decide)) (a4 26 (by decide)) rfl rfl hx, mAbs_fr (b4 8 (by decide)) (b4 10 (by decide)) (b4 11 (by decide)) rfl rfl hm⟩
    · rw [a0]
      by_cases e : i = j
      · subst e
        exact ⟨s + 1, by omega, pk_us⟩
      · rw [pk_un e]
        exact hs i hi
    · rw [a1, a2, a3]
      by_cases e : i = j * 3 + s
      · subst e
        rw [pk_us, pk_us, pk_us]
        obtain ⟨o', ho', rfl⟩ := inb_in (n := 6) (by decide) p2
        obtain ⟨v', hv', rfl⟩ := inb_in (n := 4) (by decide) p3
        refine ⟨⟨o', ho', rfl⟩, ⟨v', hv', rfl⟩, ?_⟩
        rcases p4 with p4 | p4
        · exact .inl p4
        · exact .inr (inb_in (n := 4) (by decide) p4)
      · rw [pk_un e, pk_un e, pk_un e]
        exact ho i hi
    · rcases (show k = 0 ∨ k = 1 ∨ k = 2 ∨ k = 3 by omega) with rfl | rfl | rfl | rfl
      · rw [b0, a0, e0]
      · rw [b1, a1, hg.1 1 (by decide)]
      · rw [b2, a2, hg.1 2 (by decide)]
      · rw [b3, a3, hg.1 3 (by decide)]
    · exact gRow_congr (A := A) (B := B) (by rw [a4 4 (by decide)]) (by rw [a4 5 (by decide)]) (by rw [a4 6 (by decide)]) (by rw [b4 4 (by decide)]) (by rw [b4 5 (by decide)]) (by rw [b4 6 (by decide)]) (by rw [b4 7 (by decide)]) (hg.2 b hb)
  · have hA : asgA A b op v w = A := by rw [asgA, if_neg hp]
    have hB : asgA B b op v w = B := by rw [asgA, if_neg (by rw [e0]; exact hp)]
    rw [hA, hB]
    exact ⟨V, hn, hs, ho, hg, h7, hP, hx, hm⟩
theorem Rel_empty {j : Nat} (hj : j < 10) (h : Rel F A G B) : A 0 j = B 0 j ∧ Rel F (va_up A 0 (upd (A 0) j (nI 0))) G (va_up B 0 (upd (B 0) j (nI 0))) := by
  obtain ⟨V, hn, hs, ho, hg, h7, hP, hx, hm⟩ := h
  have e0 : B 0 = A 0 := hg.1 0 (by decide)
  refine ⟨by rw [e0], V, hn, fun i hi => ?_, fun i hi => ?_, ⟨fun k hk => ?_, fun b hb => ?_⟩, h7, fun h => Prep_frame (fun k h1 h2 => up_n (by omega)) rfl rfl rfl (hP h), xAbs_fr (up_n (by decide)) (up_n (by decide)) (up_n (by decide)) rfl rfl hx, mAbs_fr (up_n (by decide)) (up_n (by decide)) (up_n (by decide)) rfl rfl hm⟩
  · rw [up_s]
    by_cases e : i = j
    · subst e
      exact ⟨0, by omega, pk_us⟩
    · rw [pk_un e]
      exact hs i hi
  · rw [up_n (show (1 : Nat) ≠ 0 by decide), up_n (show (2 : Nat) ≠ 0 by decide), up_n (show (3 : Nat) ≠ 0 by decide)]
    exact ho i hi
  · by_cases e : k = 0
    · subst e
      rw [up_s, up_s, e0]
    · rw [up_n e, up_n e]
      exact hg.1 k hk
  · exact gRow_congr (A := A) (B := B) (by rw [up_n (by decide)]) (by rw [up_n (by decide)]) (by rw [up_n (by decide)]) (by rw [up_n (by decide)]) (by rw [up_n (by decide)]) (by rw [up_n (by decide)]) (by rw [up_n (by decide)]) (hg.2 b hb)
theorem setE_is {A : jA} {j : Nat} {v t u : Int32} : setE A j v t u 4 = upd (A 4) j v ∧ setE A j v t u 5 = upd (A 5) j t ∧ setE A j v t u 6 = upd (A 6) j u ∧ ∀ k, k ≠ 4 → k ≠ 5 → k ≠ 6 → setE A j v t u k = A k := by
  unfold setE
  refine ⟨?_, ?_, up_s, fun k h4 h5 h6 => ?_⟩
  · rw [up_n (by decide), up_n (by decide), up_s]
  · rw [up_n (by decide), up_s]
  · rw [up_n h6, up_n h5, up_n h4]
theorem Rel_end {j : Nat} {v t u : Int32} (h : Rel F A G B) (hB : ∀ k, k ≠ 4 → k ≠ 5 → k ≠ 6 → k ≠ 7 → B1 k = B k) (hb : ∀ b, b ≠ j → B1 4 b = B 4 b ∧ B1 5 b = B 5 b ∧ B1 6 b = B 6 b ∧ B1 7 b = B 7 b) (hr : gRow (setE A j v t u) B1 j) : Rel (upd F 7 (nI 0)) (setE A j v t u) G B1 := by
  obtain ⟨V, hn, hs, ho, hg, h7, hP, hx, hm⟩ := h
  obtain ⟨a4, a5, a6, ak⟩ := setE_is (A := A) (j := j) (v := v) (t := t) (u := u)
  generalize setE A j v t u = A1 at *
  refine ⟨V, hn, fun i hi => ?_, opOK_congr (A := A) (fun k hk => ak k (by omega) (by omega) (by omega)) ho, ⟨fun k hk => ?_, fun b hb2 => ?_⟩, .inl pk_us, fun h => ?_, xAbs_fr (ak 20 (by decide) (by decide) (by decide)) (ak 24 (by decide) (by decide) (by decide)) (ak 26 (by decide) (by decide) (by decide)) (pk_un (by decide)) (pk_un (by decide)) hx, mAbs_fr (hB 8 (by decide) (by decide) (by decide) (by decide)) (hB 10 (by decide) (by decide) (by decide) (by decide)) (hB 11 (by decide) (by decide) (by decide) (by decide)) rfl rfl hm⟩
  · rw [ak 0 (by decide) (by decide) (by decide)]
    exact hs i hi
  · rw [hB k (by omega) (by omega) (by omega) (by omega), ak k (by omega) (by omega) (by omega)]
    exact hg.1 k hk
  · show gRow A1 B1 b
    by_cases e : b = j
    · subst e
      exact hr
    · obtain ⟨c4, c5, c6, c7⟩ := hb b e
      exact gRow_congr (A := A) (B := B) (by rw [a4, pk_un e]) (by rw [a5, pk_un e]) (by rw [a6, pk_un e]) c4 c5 c6 c7 (hg.2 b hb2)
  · rw [pk_us] at h
    exact absurd h (by decide)
theorem Rel_stop {j : Nat} (h : Rel F A G B) : Rel (upd F 7 (nI 0)) (setE A j (-1) (-1) (-1)) G (va_up B 4 (upd (B 4) j (nI 0))) := by
  obtain ⟨a4, a5, a6, -⟩ := setE_is (A := A) (j := j) (v := -1) (t := -1) (u := -1)
  refine Rel_end h (fun k h4 _ _ _ => up_n h4) (fun b hb => ⟨by rw [up_s, pk_un hb], by rw [up_n (by decide)], by rw [up_n (by decide)], by rw [up_n (by decide)]⟩) (.inl ⟨by rw [up_s, pk_us], by rw [a4, pk_us], by rw [a5, pk_us], by rw [a6, pk_us]⟩)
theorem Rel_go {j k : Nat} (hk : k < 10) (h : Rel F A G B) : Rel (upd F 7 (nI 0)) (setE A j (-1) (nI k) (-1)) G (va_up (va_up B 4 (upd (B 4) j (nI 1))) 6 (upd (B 6) j (nI k))) := by
  obtain ⟨a4, a5, a6, -⟩ := setE_is (A := A) (j := j) (v := -1) (t := nI k) (u := -1)
  refine Rel_end h (fun k h4 _ h6 _ => by rw [up_n h6, up_n h4]) (fun b hb => ⟨by rw [up_n (by decide), up_s, pk_un hb], by rw [up_n (by decide), up_n (by decide)], by rw [up_s, pk_un hb], by rw [up_n (by decide), up_n (by decide)]⟩) (.inr (.inl ⟨k, hk, by rw [up_n (by decide), up_s, pk_us], by rw [a4, pk_us], by rw [a5, pk_us], by rw [a6, pk_us], by rw [up_s, pk_us]⟩))
theorem Rel_branch {j a k e : Nat} (ha : a < 4) (hk : k < 10) (he : e < 10) (h : Rel F A G B) : Rel (upd F 7 (nI 0)) (setE A j (nI a) (nI k) (nI e)) G (va_up (va_up (va_up (va_up B 4 (upd (B 4) j (nI 2))) 5 (upd (B 5) j (nI a))) 6 (upd (B 6) j (nI k))) 7 (upd (B 7) j (nI e))) := by
  obtain ⟨a4, a5, a6, -⟩ := setE_is (A := A) (j := j) (v := nI a) (t := nI k) (u := nI e)
  have c4 : va_up (va_up (va_up (va_up B 4 (upd (B 4) j (nI 2))) 5 (upd (B 5) j (nI a))) 6 (upd (B 6) j (nI k))) 7 (upd (B 7) j (nI e)) 4 = upd (B 4) j (nI 2) := by
    rw [up_n (by decide), up_n (by decide), up_n (by decide), up_s]
  have c5 : va_up (va_up (va_up (va_up B 4 (upd (B 4) j (nI 2))) 5 (upd (B 5) j (nI a))) 6 (upd (B 6) j (nI k))) 7 (upd (B 7) j (nI e)) 5 = upd (B 5) j (nI a) := by
    rw [up_n (by decide), up_n (by decide), up_s]
  have c6 : va_up (va_up (va_up (va_up B 4 (upd (B 4) j (nI 2))) 5 (upd (B 5) j (nI a))) 6 (upd (B 6) j (nI k))) 7 (upd (B 7) j (nI e)) 6 = upd (B 6) j (nI k) := by
    rw [up_n (by decide), up_s]
  have c7 : va_up (va_up (va_up (va_up B 4 (upd (B 4) j (nI 2))) 5 (upd (B 5) j (nI a))) 6 (upd (B 6) j (nI k))) 7 (upd (B 7) j (nI e)) 7 = upd (B 7) j (nI e) := up_s
  have ck : ∀ x, x ≠ 4 → x ≠ 5 → x ≠ 6 → x ≠ 7 → va_up (va_up (va_up (va_up B 4 (upd (B 4) j (nI 2))) 5 (upd (B 5) j (nI a))) 6 (upd (B 6) j (nI k))) 7 (upd (B 7) j (nI e)) x = B x := fun x h4 h5 h6 h7 => by
    rw [up_n h7, up_n h6, up_n h5, up_n h4]
  generalize va_up (va_up (va_up (va_up B 4 (upd (B 4) j (nI 2))) 5 (upd (B 5) j (nI a))) 6 (upd (B 6) j (nI k))) 7 (upd (B 7) j (nI e)) = B1 at *
  refine Rel_end h ck (fun b hb => ⟨by rw [c4, pk_un hb], by rw [c5, pk_un hb], by rw [c6, pk_un hb], by rw [c7, pk_un hb]⟩) (.inr (.inr ⟨a, k, e, ha, hk, he, by rw [c4, pk_us], by rw [a4, pk_us], by rw [c5, pk_us], by rw [a5, pk_us], by rw [c6, pk_us], by rw [a6, pk_us], by rw [c7, pk_us]⟩))
theorem Rel_set {j : Nat} {val : Int32} (h : Rel F A G B) : Rel F (va_up A 20 (upd (A 20) j val)) G (va_up B 8 (upd (B 8) j val)) := by
  obtain ⟨V, hn, hs, ho, hg, h7, hP, hx, hm⟩ := h
  refine ⟨(upd V.1 j val, V.2), hn, fun i hi => ?_, opOK_congr (A := A) (fun k hk => up_n (by omega)) ho, gRel_congr (fun k hk => up_n (by omega)) (fun k hk => up_n (by omega)) hg, h7, fun h => Prep_frame (fun k h1 h2 => up_n (by omega)) rfl rfl rfl (hP h), (xAbs_var hx).1, (mAbs_var hm).1⟩
  rw [up_n (by decide)]
  exact hs i hi
theorem Rel_of {V : aV} (hn : V.2.1 < 2 ^ 20) (hs : szOK A) (ho : opOK A) (hg : gRel A B) (hA : ∀ k, k < 7 → A1 k = A k) (hB : ∀ k, k < 8 → B1 k = B k) (h7 : F1 7 = nI 1) (hP : Prep F1 A1) (hx : xAbs F1 A1 V) (hm : mAbs G1 B1 V) : Rel F1 A1 G1 B1 := by
  refine ⟨V, hn, fun i hi => ?_, opOK_congr (A := A) (fun k hk => hA k (by omega)) ho, gRel_congr hA hB hg, .inr h7, fun _ => hP, hx, hm⟩
  rw [hA 0 (by decide)]
  exact hs i hi
theorem two_eq {v r1 r2 z : Int32} {n : Nat} {f g : Nat → Int32} (hn : n < 2 ^ 31) (h : ∀ j, j < n → f j = g j) (h1 : (∃ j, j < n ∧ v = nI j ∧ r1 = f j) ∨ (inb v n = false ∧ r1 = z)) (h2 : (∃ j, j < n ∧ v = nI j ∧ r2 = g j) ∨ (inb v n = false ∧ r2 = z)) : r1 = r2 := by
  rcases h1 with ⟨j, hj, e, e1⟩ | ⟨e, e1⟩
  · rcases h2 with ⟨i, hi, ei, e2⟩ | ⟨e3, e2⟩
    · have : i = j := nI_inj (by omega) (by omega) (ei.symm.trans e)
      subst this
      rw [e1, e2, h i hi]
    · rw [e, inb_nI hj hn] at e3
      cases e3
  · rcases h2 with ⟨i, hi, ei, e2⟩ | ⟨e3, e2⟩
    · rw [ei, inb_nI hi hn] at e
      cases e
    · rw [e1, e2]
theorem fin_empty {b r1 r2 : Int32} (h : Rel F A G B) (hx : F1 = F ∧ ((∃ j, j < 10 ∧ b = nI j ∧ r1 = A 0 j ∧ A1 = va_up A 0 (upd (A 0) j (nI 0))) ∨ (inb b 10 = false ∧ r1 = -1 ∧ A1 = A))) (hm : G1 = G ∧ ((∃ j, j < 10 ∧ b = nI j ∧ r2 = B 0 j ∧ B1 = va_up B 0 (upd (B 0) j (nI 0))) ∨ (inb b 10 = false ∧ r2 = -1 ∧ B1 = B))) : r1 = r2 ∧ Rel F1 A1 G1 B1 := by
  obtain ⟨rfl, hx⟩ := hx
  obtain ⟨rfl, hm⟩ := hm
  rcases hx with ⟨j, hj, rfl, e1, e2⟩ | ⟨e, e1, e2⟩
  · rcases hm with ⟨i, hi, ei, e3, e4⟩ | ⟨e, -⟩
    · have : j = i := nI_inj (by omega) (by omega) ei
      subst this
      rw [e1, e2, e3, e4]
      exact Rel_empty hj h
    · rw [inb_nI hj (by decide)] at e
      cases e
  · rcases hm with ⟨i, hi, ei, -⟩ | ⟨-, e3, e4⟩
    · rw [ei, inb_nI hi (by decide)] at e
      cases e
    · rw [e1, e2, e3, e4]
      exact ⟨rfl, h⟩
theorem fin_set {v val r1 r2 : Int32} (h : Rel F A G B) (hx : F1 = F ∧ ((∃ j, j < 4 ∧ v = nI j ∧ r1 = nI 0 ∧ A1 = va_up A 20 (upd (A 20) j val)) ∨ (inb v 4 = false ∧ r1 = -2 ∧ A1 = A))) (hm : G1 = G ∧ ((∃ j, j < 4 ∧ v = nI j ∧ r2 = nI 0 ∧ B1 = va_up B 8 (upd (B 8) j val)) ∨ (inb v 4 = false ∧ r2 = -2 ∧ B1 = B))) : r1 = r2 ∧ Rel F1 A1 G1 B1 := by
  obtain ⟨rfl, hx⟩ := hx
  obtain ⟨rfl, hm⟩ := hm
  rcases hx with ⟨j, hj, rfl, e1, e2⟩ | ⟨e, e1, e2⟩
  · rcases hm with ⟨i, hi, ei, e3, e4⟩ | ⟨e, -⟩
    · have : j = i := nI_inj (by omega) (by omega) ei
      subst this
      rw [e1, e2, e3, e4]
      exact ⟨rfl, Rel_set h⟩
    · rw [inb_nI hj (by decide)] at e
      cases e
  · rcases hm with ⟨i, hi, ei, -⟩ | ⟨-, e3, e4⟩
    · rw [ei, inb_nI hi (by decide)] at e
      cases e
    · rw [e1, e2, e3, e4]
      exact ⟨rfl, h⟩
theorem fin_stop {b r1 r2 : Int32} (h : Rel F A G B) (hx : (∃ j, j < 10 ∧ b = nI j ∧ r1 = nI 0 ∧ F1 = upd F 7 (nI 0) ∧ A1 = setE A j (-1) (-1) (-1)) ∨ (inb b 10 = false ∧ r1 = -1 ∧ F1 = F ∧ A1 = A)) (hm : G1 = G ∧ ((∃ j, j < 10 ∧ b = nI j ∧ r2 = nI 0 ∧ B1 = va_up B 4 (upd (B 4) j (nI 0))) ∨ (inb b 10 = false ∧ r2 = -1 ∧ B1 = B))) : r1 = r2 ∧ Rel F1 A1 G1 B1 := by
  obtain ⟨rfl, hm⟩ := hm
  rcases hx with ⟨j, hj, rfl, e1, e2, e5⟩ | ⟨e, e1, e2, e5⟩
  · rcases hm with ⟨i, hi, ei, e3, e4⟩ | ⟨e, -⟩
    · have : j = i := nI_inj (by omega) (by omega) ei
      subst this
      rw [e1, e2, e3, e4, e5]
      exact ⟨rfl, Rel_stop h⟩
    · rw [inb_nI hj (by decide)] at e
      cases e
  · rcases hm with ⟨i, hi, ei, -⟩ | ⟨-, e3, e4⟩
    · rw [ei, inb_nI hi (by decide)] at e
      cases e
    · rw [e1, e2, e3, e4, e5]
      exact ⟨rfl, h⟩
theorem fin_go {b t r1 r2 : Int32} (h : Rel F A G B) (hx : (∃ j k, j < 10 ∧ k < 10 ∧ b = nI j ∧ t = nI k ∧ r1 = nI 0 ∧ F1 = upd F 7 (nI 0) ∧ A1 = setE A j (-1) (nI k) (-1)) ∨ ((inb b 10 = false ∨ inb t 10 = false) ∧ r1 = -1 ∧ F1 = F ∧ A1 = A)) (hm : G1 = G ∧ ((∃ j k, j < 10 ∧ k < 10 ∧ b = nI j ∧ t = nI k ∧ r2 = nI 0 ∧ B1 = va_up (va_up B 4 (upd (B 4) j (nI 1))) 6 (upd (B 6) j (nI k))) ∨ ((inb b 10 = false ∨ inb t 10 = false) ∧ r2 = -1 ∧ B1 = B))) : r1 = r2 ∧ Rel F1 A1 G1 B1 := by
  obtain ⟨rfl, hm⟩ := hm
  rcases hx with ⟨j, k, hj, hk, rfl, rfl, e1, e2, e5⟩ | ⟨e, e1, e2, e5⟩
  · rcases hm with ⟨i, o, hi, ho, ei, eo, e3, e4⟩ | ⟨e, -⟩
    · have : j = i := nI_inj (by omega) (by omega) ei
      subst this
      have : k = o := nI_inj (by omega) (by omega) eo
      subst this
      rw [e1, e2, e3, e4, e5]
      exact ⟨rfl, Rel_go hk h⟩
    · rw [inb_nI hj (by decide), inb_nI hk (by decide)] at e
      rcases e with e | e <;> cases e
  · rcases hm with ⟨i, o, hi, ho, ei, eo, -⟩ | ⟨-, e3, e4⟩
    · rw [ei, eo, inb_nI hi (by decide), inb_nI ho (by decide)] at e
      rcases e with e | e <;> cases e
    · rw [e1, e2, e3, e4, e5]
      exact ⟨rfl, h⟩
theorem fin_branch {b v t u r1 r2 : Int32} (h : Rel F A G B) (hx : (∃ j a k e, j < 10 ∧ a < 4 ∧ k < 10 ∧ e < 10 ∧ b = nI j ∧ v = nI a ∧ t = nI k ∧ u = nI e ∧ r1 = nI 0 ∧ F1 = upd F 7 (nI 0) ∧ A1 = setE A j (nI a) (nI k) (nI e)) ∨ ((inb b 10 = false ∨ inb t 10 = false ∨ inb u 10 = false) ∧ r1 = -1 ∧ F1 = F ∧ A1 = A) ∨ (inb b 10 = true ∧ inb t 10 = true ∧ inb u 10 = true ∧ inb v 4 = false ∧ r1 = -2 ∧ F1 = F ∧ A1 = A))
    (hm : G1 = G ∧ ((∃ j a k e, j < 10 ∧ a < 4 ∧ k < 10 ∧ e < 10 ∧ b = nI j ∧ v = nI a ∧ t = nI k ∧ u = nI e ∧ r2 = nI 0 ∧ B1 = va_up (va_up (va_up (va_up B 4 (upd (B 4) j (nI 2))) 5 (upd (B 5) j (nI a))) 6 (upd (B 6) j (nI k))) 7 (upd (B 7) j (nI e))) ∨ ((inb b 10 = false ∨ inb t 10 = false ∨ inb u 10 = false) ∧ r2 = -1 ∧ B1 = B) ∨ (inb b 10 = true ∧ inb t 10 = true ∧ inb u 10 = true ∧ inb v 4 = false ∧ r2 = -2 ∧ B1 = B))) : r1 = r2 ∧ Rel F1 A1 G1 B1 := by
  obtain ⟨rfl, hm⟩ := hm
  rcases hx with ⟨j, a, k, e, hj, ha, hk, he, rfl, rfl, rfl, rfl, e1, e2, e5⟩ | ⟨e, e1, e2, e5⟩ | ⟨q1, q2, q3, q4, e1, e2, e5⟩
  · rcases hm with ⟨j', a', k', e', hj', ha', hk', he', xj, xa, xk, xe, e3, e4⟩ | ⟨x, -⟩ | ⟨-, -, -, x, -⟩
    · have : j = j' := nI_inj (by omega) (by omega) xj
      subst this
      have : a = a' := nI_inj (by omega) (by omega) xa
      subst this
      have : k = k' := nI_inj (by omega) (by omega) xk
      subst this
      have : e = e' := nI_inj (by omega) (by omega) xe
      subst this
      rw [e1, e2, e3, e4, e5]
      exact ⟨rfl, Rel_branch ha hk he h⟩
    · rw [inb_nI hj (by decide), inb_nI hk (by decide), inb_nI he (by decide)] at x
      rcases x with x | x | x <;> cases x
    · rw [inb_nI ha (by decide)] at x
      cases x
  · rcases hm with ⟨j', a', k', e', hj', ha', hk', he', xj, xa, xk, xe, -⟩ | ⟨-, e3, e4⟩ | ⟨x1, x2, x3, -⟩
    · rw [xj, xk, xe, inb_nI hj' (by decide), inb_nI hk' (by decide), inb_nI he' (by decide)] at e
      rcases e with e | e | e <;> cases e
    · rw [e1, e2, e3, e4, e5]
      exact ⟨rfl, h⟩
    · rw [x1, x2, x3] at e
      rcases e with e | e | e <;> cases e
  · rcases hm with ⟨j', a', k', e', hj', ha', hk', he', xj, xa, xk, xe, -⟩ | ⟨x, -⟩ | ⟨-, -, -, -, e3, e4⟩
    · rw [xa, inb_nI ha' (by decide)] at q4
      cases q4
    · rw [q1, q2, q3] at x
      rcases x with x | x | x <;> cases x
    · rw [e1, e2, e3, e4, e5]
      exact ⟨rfl, h⟩
theorem fin_output {back r1 r2 : Int32} {V : aV} (hn : V.2.1 < 2 ^ 20) (hX : xAbs F A V) (hM : mAbs G B V) (hx : (∃ k, k < 16 ∧ k < V.2.1 ∧ back = nI k ∧ r1 = A 26 ((V.2.1 - 1 - k) % 16)) ∨ ((inb back 16 = false ∨ F 25 ≤ back) ∧ r1 = nI 0)) (hm : (∃ k, k < 16 ∧ k < V.2.1 ∧ back = nI k ∧ r2 = B 10 k) ∨ ((inb back 16 = false ∨ G 9 ≤ back) ∧ r2 = nI 0)) : r1 = r2 := by
  have hno : ∀ k, k < 16 → k < V.2.1 → ¬ (inb (nI k) 16 = false ∨ nI V.2.1 ≤ nI k) := by
    intro k h1 h2 h
    rcases h with h | h
    · rw [inb_nI h1 (by decide)] at h
      cases h
    · have := (nI_leI (by omega) (by omega)).mp h
      omega
  rcases hx with ⟨k, h1, h2, e, e1⟩ | ⟨e, e1⟩
  · rcases hm with ⟨i, g1, g2, e2, e3⟩ | ⟨e2, e3⟩
    · have : i = k := nI_inj (by omega) (by omega) (e2.symm.trans e)
      subst this
      rw [e1, e3, hX.2.2.1 (V.2.1 - 1 - i) (by omega) (by omega), hM.2.2.1 i g1 g2]
    · rw [e, hM.2.1] at e2
      exact absurd e2 (hno k h1 h2)
  · rcases hm with ⟨i, g1, g2, e2, e3⟩ | ⟨e2, e3⟩
    · rw [e2, hX.2.1] at e
      exact absurd e (hno i g1 g2)
    · rw [e1, e3]
end RL
theorem and15 (x : Int32) : ∃ k : Nat, k < 16 ∧ x &&& nI 15 = nI k := by
  refine ⟨(x.toBitVec &&& 15#32).toNat, ?_, ?_⟩
  · rw [BitVec.toNat_and]
    exact Nat.lt_succ_of_le Nat.and_le_right
  · apply Int32.toBitVec_inj.1
    show x.toBitVec &&& BitVec.ofNat 32 15 = BitVec.ofNat 32 (x.toBitVec &&& 15#32).toNat
    rw [BitVec.ofNat_toNat, BitVec.setWidth_eq]
end
section
/-! THE CLAIM OUT OF ONE WALK OF THE LAW'S BODY. Your part is whole_start (and what it stands on); all else here is the same for every law, but numbers. -/
def R_law : String := "RelooperRunLaw"
def lw_P (b : Addr) (xs : List Int32) (args : Array Value) (s : State) : Prop := args = #[.ref b] ∧ s.IntsAt b xs ∧ xs.length ≤ 320 ∧ (Jvm.Cond.and given_1 narrow_1).before args s = true
def lw_Q (_ : Array Value) (s : State) (o : Outcome) (t : State) : Prop := o = .returned (some (.int 1)) ∧ Framed s o t [] 600000 7290000
def lw_Z (below : List Frame) (a : Array Value) (s : State) : State → Prop := fun t => ∃ o, t.status = .running ∧ Ended t below o ∧ lw_Q a s o t
/-- the law's own end, with 1 on the stack, nothing written that was there before, its room as the claim has it -/
theorem lw_ret {p : Program} {l : Launch} {e : Env} {s : State} {m : MethodId} {below : List Frame} {meth : Method} {c : Code} {b : Nat} (hx : p.tables.exec = Jvm.exec) (hb : c.code = code) (hr : meth.sig.returnType = ret) (hlocks : meth.locks = false) {pc : Nat} {H : Heap} {ls : Array Slot} (hdg : decode code pc = .ok (.ireturn, 1)) : W p l e room_1 s m #[Value.ref b] below meth c H [] 600000 7290000 (lw_Z below #[Value.ref b] s) (F0 m pc ls [.int 1]) := by
  intro T hT X
  obtain ⟨fs, hret, hrun, hended, hW, hframe⟩ := X.leave (v := some (.int 1)) (hlocks := hlocks) (fun h => by rw [hr] at h; cases h)
  have hmeth' : T.vm.method? m = some meth := X.method'
  refine ⟨T.setFrames fs, ?_, .returned (some (.int 1)), hrun, hended, rfl, ⟨_, rfl⟩, hW, hframe⟩
  jvm_step X.here [X.here.top, hx, hb, hdg, hmeth', hr, ret, narrow_b1]
  (try refine ⟨rfl, ?_⟩); (try refine ⟨rfl, ?_⟩)
  first | (intro acts; rw [hret _ acts rfl rfl rfl]) | rw [hret _ _ rfl rfl rfl]
  exact Steps.refl _
/-- what holds at the law's entry: the machine, the code, the tables' words (any of lw_tbl by 'hts w (by decide +kernel)'), the script of L ints xs at the cell b, what the Statement gives of the start (any of its parts by flat_of_before) -/
def lw_At (p : Program) (s : State) (m : MethodId) (meth : Method) (c : Code) (b L : Nat) (xs : Nat → Int32) : Prop :=
  p.tables.exec = Jvm.exec ∧ c.code = code ∧ meth.sig.returnType = ret ∧ c.maxLocals = 4 ∧ s.vm.findClass R_law = some m.cls ∧ (∀ w ∈ lw_tbl, w.before #[Value.ref b] s = true) ∧ va_X b L xs s s.heap ∧ b < s.heap.size ∧ meth.locks = false ∧ (Jvm.Cond.and given_1 narrow_1).before #[Value.ref b] s = true
/-! the law's world: both objects -/
abbrev lT : Type := va_G × ClassId × Nat × (Nat → Nat) × Nat × (Nat → Nat)
def lhx (w : lT) : Nat := w.2.2.1
def lhm (w : lT) : Nat := w.2.2.2.2.1
def lP (w : lT) (H0 : Heap) (F : jF) (A : jA) (G : jF) (B : jA) (H : Heap) (locs : List Loc) : Prop :=
  match w with
  | (D, d, h, q, h2, q2) => va_P D vwCl (xW h q d F A ++ mW h2 q2 d G B) H ∧ va_D (fun x : Nat => H0.size ≤ x) (xW h q d F A ++ mW h2 q2 d G B) ∧ va_S (fun x : Nat => H0.size ≤ x) H0 H locs
def lX (g : jG) (w : lT) (H0 : Heap) (b N : Nat) (xs : Nat → Int32) : Prop :=
  match g, w with
  | (p, l, e, R, s, m, args, below, meth, c, Q, cells, slots), (D, d, h, q, h2, q2) => s.vm.findClass R_law = some m.cls ∧ (∀ w ∈ lw_all, w.before args s = true) ∧ va_K D vwCl [(d, .int)] s ∧ H0 = s.heap ∧ va_X b N xs s s.heap ∧ b < s.heap.size ∧ 7 ≤ R.frames ∧ 210 ≤ R.locals ∧ cells ≤ R.cells ∧ slots ≤ R.slots
section LR
variable {g : jG} {w : lT} {H0 : Heap} {b N : Nat} {xs : Nat → Int32} {cc cc1 : ByteArray} {nL pc idx nL1 fr1 n : Nat} {L : List (Option Value)} {st rest av : List Value} {F G : jF} {A B : jA} {y : MethodName} {rt : FieldType}
set_option maxHeartbeats 4000000 in
set_option maxRecDepth 100000 in
theorem l_callx {post : Int32 → jF → jA → Prop} (C : jC g cc nL) (X : lX g w H0 b N xs) (hM : xMi y cc1 nL1 rt fr1 av F A post) (hV : GoodIn lw_all (wsV R_law idx RX0 y (ws_ y cc1 nL1 (some rt)))) (hdd : y.cls = RX0 ∧ y.cls ≠ "java/lang/invoke/MethodHandle" ∧ y.cls ≠ "java/lang/invoke/VarHandle" ∧ (parseMethodDescriptor y.desc).map (fun d => d.parameters.length) = some n) (hn : av.length = n) (hfr : fr1 + 1 ≤ 7) (hm : nL1 ≤ 11) (hd : decode cc pc = .ok (.invokevirtual idx, 3)) (hst : st = av.reverse ++ .ref (lhx w) :: rest) (hsum : (rest.map fun v => v.category).sum ≤ 8) (hL : L.length = nL) (kk : ∀ (r : Int32) (F1 : jF) (A1 : jA), post r F1 A1 → J g (lP w H0 F1 A1 G B) (pc + 3) L (.int r :: rest)) : J g (lP w H0 F A G B) pc L st := by
  obtain ⟨p, l, e, R, s, m, args, below, meth, c, Q, cells, slots⟩ := g
  obtain ⟨D, d, h, q, h2, q2⟩ := w
  intro H locs ls hPP hl
  obtain ⟨hown, hts, hK, hH0, hXs, hbl, hRf, hRl, hRc, hRs⟩ := X
  obtain ⟨hP, hD, hS⟩ := hPP
  subst hH0
  subst hst
  have hA : ∀ x : Nat, s.heap.size ≤ x → (fun x : Nat => s.heap.size ≤ x) x := fun _ h => h
  have hPc := hP.sub (ws' := xW h q d F A) [0, 1, 2, 3, 4, 5, 6, 7, 8, 9, 10, 11, 12, 13, 14, 15, 16, 17, 18, 19] rfl
  have hDc := hD.sub (ws' := xW h q d F A) [0, 1, 2, 3, 4, 5, 6, 7, 8, 9, 10, 11, 12, 13, 14, 15, 16, 17, 18, 19] (by decide) rfl
  have hFc := va_free (wc := xW h q d F A) hD hS hA [0, 1, 2, 3, 4, 5, 6, 7, 8, 9, 10, 11, 12, 13, 14, 15, 16, 17, 18, 19] rfl
  refine va_calli (va_runV (As := av) (rest := rest) ⟨C.1, C.2.1, C.2.2, hown, hts⟩ (hM l D d h q H.size) (cwV n hts hV rfl rfl rfl hdd ⟨Nat.le_trans hfr hRf, by simp only [rmN]; omega⟩) ⟨fun a U g mk q => by obtain ⟨q0, q1, qP, qK, qD⟩ := q; exact ⟨q0, q1, qP, va_K.moved (u := U) (U := U.calling g mk a) (Vm.Alike.refl U.vm) qK, qD⟩, va_recv hK hPc (ci := 0) (q0 := 0) rfl rfl, fun U hU hW => ⟨rfl, by rw [hU], by rw [hU]; exact hPc, va_K.moved hW.alike hK, hDc.weaken (fun _ _ _ _ => trivial)⟩⟩ rfl hn (hl.1.trans hL) rfl (lv_room hsum) hd ⟨hRc, hRs⟩) hS (fun q _ h => hFc q h) hFc (fun r u t H1 locs1 ht hvm hw hB hz hk hS1 => ?_)
  obtain ⟨F1, A1⟩ := u
  obtain ⟨hP1, hK1, hD1⟩ := hB
  rw [ht] at hP1
  obtain ⟨hP2, hD2⟩ := va_join (wr := mW h2 q2 d G B) (w1 := xW h q d F1 A1) hP hD [0, 1, 2, 3, 4, 5, 6, 7, 8, 9, 10, 11, 12, 13, 14, 15, 16, 17, 18, 19] [20, 21, 22, 23, 24, 25, 26, 27, 28, 29, 30, 31] rfl rfl (by decide) (by decide) hk hFc hP1 hD1
  exact kk r F1 A1 hw H1 locs1 ls ⟨hP2.sub (ws' := xW h q d F1 A1 ++ mW h2 q2 d G B) [12, 13, 14, 15, 16, 17, 18, 19, 20, 21, 22, 23, 24, 25, 26, 27, 28, 29, 30, 31, 0, 1, 2, 3, 4, 5, 6, 7, 8, 9, 10, 11] rfl, hD2.sub (ws' := xW h q d F1 A1 ++ mW h2 q2 d G B) [12, 13, 14, 15, 16, 17, 18, 19, 20, 21, 22, 23, 24, 25, 26, 27, 28, 29, 30, 31, 0, 1, 2, 3, 4, 5, 6, 7, 8, 9, 10, 11] (by decide) rfl, hS1⟩ hl
set_option maxHeartbeats 4000000 in
set_option maxRecDepth 100000 in
theorem l_callm {post : Int32 → jF → jA → Prop} (C : jC g cc nL) (X : lX g w H0 b N xs) (hM : mMi y cc1 nL1 rt fr1 av G B post) (hV : GoodIn lw_all (wsV R_law idx RX1 y (ws_ y cc1 nL1 (some rt)))) (hdd : y.cls = RX1 ∧ y.cls ≠ "java/lang/invoke/MethodHandle" ∧ y.cls ≠ "java/lang/invoke/VarHandle" ∧ (parseMethodDescriptor y.desc).map (fun d => d.parameters.length) = some n) (hn : av.length = n) (hfr : fr1 + 1 ≤ 7) (hm : nL1 ≤ 11) (hd : decode cc pc = .ok (.invokevirtual idx, 3)) (hst : st = av.reverse ++ .ref (lhm w) :: rest) (hsum : (rest.map fun v => v.category).sum ≤ 8) (hL : L.length = nL) (kk : ∀ (r : Int32) (G1 : jF) (B1 : jA), post r G1 B1 → J g (lP w H0 F A G1 B1) (pc + 3) L (.int r :: rest)) : J g (lP w H0 F A G B) pc L st := by
  obtain ⟨p, l, e, R, s, m, args, below, meth, c, Q, cells, slots⟩ := g
  obtain ⟨D, d, h, q, h2, q2⟩ := w
  intro H locs ls hPP hl
  obtain ⟨hown, hts, hK, hH0, hXs, hbl, hRf, hRl, hRc, hRs⟩ := X
  obtain ⟨hP, hD, hS⟩ := hPP
  subst hH0
  subst hst
  have hA : ∀ x : Nat, s.heap.size ≤ x → (fun x : Nat => s.heap.size ≤ x) x := fun _ h => h
  have hPc := hP.sub (ws' := mW h2 q2 d G B) [20, 21, 22, 23, 24, 25, 26, 27, 28, 29, 30, 31] rfl
  have hDc := hD.sub (ws' := mW h2 q2 d G B) [20, 21, 22, 23, 24, 25, 26, 27, 28, 29, 30, 31] (by decide) rfl
  have hFc := va_free (wc := mW h2 q2 d G B) hD hS hA [20, 21, 22, 23, 24, 25, 26, 27, 28, 29, 30, 31] rfl
  refine va_calli (va_runV (As := av) (rest := rest) ⟨C.1, C.2.1, C.2.2, hown, hts⟩ (hM l D d h2 q2 H.size) (cwV n hts hV rfl rfl rfl hdd ⟨Nat.le_trans hfr hRf, by simp only [rmN]; omega⟩) ⟨fun a U g mk q => by obtain ⟨q0, q1, qP, qK, qD⟩ := q; exact ⟨q0, q1, qP, va_K.moved (u := U) (U := U.calling g mk a) (Vm.Alike.refl U.vm) qK, qD⟩, va_recv hK hPc (ci := 1) (q0 := 0) rfl rfl, fun U hU hW => ⟨rfl, by rw [hU], by rw [hU]; exact hPc, va_K.moved hW.alike hK, hDc.weaken (fun _ _ _ _ => trivial)⟩⟩ rfl hn (hl.1.trans hL) rfl (lv_room hsum) hd ⟨hRc, hRs⟩) hS (fun q _ h => hFc q h) hFc (fun r u t H1 locs1 ht hvm hw hB hz hk hS1 => ?_)
  obtain ⟨G1, B1⟩ := u
  obtain ⟨hP1, hK1, hD1⟩ := hB
  rw [ht] at hP1
  obtain ⟨hP2, hD2⟩ := va_join (wr := xW h q d F A) (w1 := mW h2 q2 d G1 B1) hP hD [20, 21, 22, 23, 24, 25, 26, 27, 28, 29, 30, 31] [0, 1, 2, 3, 4, 5, 6, 7, 8, 9, 10, 11, 12, 13, 14, 15, 16, 17, 18, 19] rfl rfl (by decide) (by decide) hk hFc hP1 hD1
  exact kk r G1 B1 hw H1 locs1 ls ⟨hP2, hD2, hS1⟩ hl
/-- an int of the script -/
theorem l_sld {i : Int32} (j : Nat) (C : jC g cc nL) (X : lX g w H0 b N xs) (hd : decode cc pc = .ok (.iaload, 1)) (hi : i = nI j) (hj : j < N) (hN : N ≤ 320) (kk : J g (lP w H0 F A G B) (pc + 1) L (.int (xs j) :: st)) : J g (lP w H0 F A G B) pc L (.int i :: .ref b :: st) := by
  obtain ⟨p, l, e, R, s, m, args, below, meth, c, Q, cells, slots⟩ := g
  obtain ⟨D, d, h, q, h2, q2⟩ := w
  intro H locs ls hPP hl
  obtain ⟨hown, hts, hK, hH0, hXs, hbl, hRf, hRl, hRc, hRs⟩ := X
  obtain ⟨hP, hD, hS⟩ := hPP
  subst hH0
  subst hi
  refine va_sld C.1 C.2.1 hXs hbl (A := fun x : Nat => s.heap.size ≤ x) (Nat.not_le.mpr hbl) hS (vp_in_nI hj (by omega)) hd ?_
  rw [nI_clamp (by omega)]
  exact kk H locs ls ⟨hP, hD, hS⟩ hl
theorem l_slen (C : jC g cc nL) (X : lX g w H0 b N xs) (hd : decode cc pc = .ok (.arraylength, 1)) (kk : J g (lP w H0 F A G B) (pc + 1) L (.int (nI N) :: st)) : J g (lP w H0 F A G B) pc L (.ref b :: st) := by
  obtain ⟨p, l, e, R, s, m, args, below, meth, c, Q, cells, slots⟩ := g
  obtain ⟨D, d, h, q, h2, q2⟩ := w
  intro H locs ls hPP hl
  obtain ⟨hown, hts, hK, hH0, hXs, hbl, hRf, hRl, hRc, hRs⟩ := X
  obtain ⟨hP, hD, hS⟩ := hPP
  subst hH0
  exact va_slen C.1 C.2.1 hXs hbl (A := fun x : Nat => s.heap.size ≤ x) (Nat.not_le.mpr hbl) hS hd (kk H locs ls ⟨hP, hD, hS⟩ hl)
end LR
end
section
set_option maxHeartbeats 4000000 in
set_option maxRecDepth 100000 in
theorem l_assign {g : jG} {w : lT} {H0 : Heap} {b N : Nat} {xs : Nat → Int32} (C : jC g cL_law 4) (X : lX g w H0 b N xs) (hN : N ≤ 320) {F G : jF} {A B : jA} {i : Nat} (hi : i + 5 ≤ N) (hR : Rel F A G B) (kont : ∀ (F1 : jF) (A1 : jA) (G1 : jF) (B1 : jA), Rel F1 A1 G1 B1 → J g (lP w H0 F1 A1 G1 B1) 439 [some (.ref b), some (.ref (lhx w)), some (.ref (lhm w)), some (.int (nI i))] []) : J g (lP w H0 F A G B) 100 [some (.ref b), some (.ref (lhx w)), some (.ref (lhm w)), some (.int (nI i))] [] := by
  refine j_aload_n C dL_law_100 rfl ?_
  refine j_aload_n C dL_law_101 rfl ?_
  refine j_iload_n C dL_law_102 rfl ?_
  refine j_iconst C (v := nI 1) dL_law_103 (by decide) ?_
  refine j_iadd C (v := nI (i + 1)) dL_law_104 (nI_add _ _) ?_
  refine l_sld (i + 1) C X dL_law_105 rfl (by omega) hN ?_
  refine j_aload_n C dL_law_106 rfl ?_
  refine j_iload_n C dL_law_107 rfl ?_
  refine j_iconst C (v := nI 2) dL_law_108 (by decide) ?_
  refine j_iadd C (v := nI (i + 2)) dL_law_109 (nI_add _ _) ?_
  refine l_sld (i + 2) C X dL_law_110 rfl (by omega) hN ?_
  refine j_aload_n C dL_law_111 rfl ?_
  refine j_iload_n C dL_law_112 rfl ?_
  refine j_iconst C (v := nI 3) dL_law_113 (by decide) ?_
  refine j_iadd C (v := nI (i + 3)) dL_law_114 (nI_add _ _) ?_
  refine l_sld (i + 3) C X dL_law_115 rfl (by omega) hN ?_
  refine j_aload_n C dL_law_116 rfl ?_
  refine j_iload_n C dL_law_117 rfl ?_
  refine j_iconst C (v := nI 4) dL_law_118 (by decide) ?_
  refine j_iadd C (v := nI (i + 4)) dL_law_119 (nI_add _ _) ?_
  refine l_sld (i + 4) C X dL_law_120 rfl (by omega) hN ?_
  obtain ⟨V, hn, hs, ho, hg, h7, hP, hX, hM⟩ := id hR
  refine l_callx C X (x_assign F A (xs (i + 1)) (xs (i + 2)) (xs (i + 3)) (xs (i + 4)) hs) (lw_V q111 q112 q113 q18 q114) (n := 4) (by decide +kernel) rfl (by decide) (by decide) dL_law_121 rfl (Nat.le_of_ble_eq_true rfl) rfl (fun r1 F1 A1 hx => ?_)
  refine j_aload_n C dL_law_124 rfl ?_
  refine j_aload_n C dL_law_125 rfl ?_
  refine j_iload_n C dL_law_126 rfl ?_
  refine j_iconst C (v := nI 1) dL_law_127 (by decide) ?_
  refine j_iadd C (v := nI (i + 1)) dL_law_128 (nI_add _ _) ?_
  refine l_sld (i + 1) C X dL_law_129 rfl (by omega) hN ?_
  refine j_aload_n C dL_law_130 rfl ?_
  refine j_iload_n C dL_law_131 rfl ?_
  refine j_iconst C (v := nI 2) dL_law_132 (by decide) ?_
  refine j_iadd C (v := nI (i + 2)) dL_law_133 (nI_add _ _) ?_
  refine l_sld (i + 2) C X dL_law_134 rfl (by omega) hN ?_
  refine j_aload_n C dL_law_135 rfl ?_
  refine j_iload_n C dL_law_136 rfl ?_
  refine j_iconst C (v := nI 3) dL_law_137 (by decide) ?_
  refine j_iadd C (v := nI (i + 3)) dL_law_138 (nI_add _ _) ?_
  refine l_sld (i + 3) C X dL_law_139 rfl (by omega) hN ?_
  refine j_aload_n C dL_law_140 rfl ?_
  refine j_iload_n C dL_law_141 rfl ?_
  refine j_iconst C (v := nI 4) dL_law_142 (by decide) ?_
  refine j_iadd C (v := nI (i + 4)) dL_law_143 (nI_add _ _) ?_
  refine l_sld (i + 4) C X dL_law_144 rfl (by omega) hN ?_
  refine l_callm C X (m_assign G B (xs (i + 1)) (xs (i + 2)) (xs (i + 3)) (xs (i + 4)) (fun j hj => by rw [hg.1 0 (by decide)]; exact hs j hj)) (lw_V q263 q264 q265 q19 q266) (n := 4) (by decide +kernel) rfl (by decide) (by decide) dL_law_145 rfl (Nat.le_of_ble_eq_true rfl) rfl (fun r2 G1 B1 hm => ?_)
  have hfin : r1 = r2 ∧ Rel F1 A1 G1 B1 := by
    obtain ⟨rfl, e1, rfl⟩ := hx
    obtain ⟨rfl, e2, rfl⟩ := hm
    rw [e1, e2]
    exact Rel_asg hR
  exact j_icmp_eq C 439 dL_law_148 (by decide) (fun _ => kont F1 A1 G1 B1 hfin.2) (fun hne => absurd hfin.1 hne)
set_option maxHeartbeats 4000000 in
set_option maxRecDepth 100000 in
theorem l_empty {g : jG} {w : lT} {H0 : Heap} {b N : Nat} {xs : Nat → Int32} (C : jC g cL_law 4) (X : lX g w H0 b N xs) (hN : N ≤ 320) {F G : jF} {A B : jA} {i : Nat} (hi : i + 5 ≤ N) (hR : Rel F A G B) (kont : ∀ (F1 : jF) (A1 : jA) (G1 : jF) (B1 : jA), Rel F1 A1 G1 B1 → J g (lP w H0 F1 A1 G1 B1) 439 [some (.ref b), some (.ref (lhx w)), some (.ref (lhm w)), some (.int (nI i))] []) : J g (lP w H0 F A G B) 153 [some (.ref b), some (.ref (lhx w)), some (.ref (lhm w)), some (.int (nI i))] [] := by
  refine j_aload_n C dL_law_153 rfl ?_
  refine j_aload_n C dL_law_154 rfl ?_
  refine j_iload_n C dL_law_155 rfl ?_
  refine j_iconst C (v := nI 1) dL_law_156 (by decide) ?_
  refine j_iadd C (v := nI (i + 1)) dL_law_157 (nI_add _ _) ?_
  refine l_sld (i + 1) C X dL_law_158 rfl (by omega) hN ?_
  refine l_callx C X (x_empty F A (xs (i + 1))) (lw_V q121 q122 q123 q18 q124) (n := 1) (by decide +kernel) rfl (by decide) (by decide) dL_law_159 rfl (Nat.le_of_ble_eq_true rfl) rfl (fun r1 F1 A1 hx => ?_)
  refine j_aload_n C dL_law_162 rfl ?_
  refine j_aload_n C dL_law_163 rfl ?_
  refine j_iload_n C dL_law_164 rfl ?_
  refine j_iconst C (v := nI 1) dL_law_165 (by decide) ?_
  refine j_iadd C (v := nI (i + 1)) dL_law_166 (nI_add _ _) ?_
  refine l_sld (i + 1) C X dL_law_167 rfl (by omega) hN ?_
  refine l_callm C X (m_empty G B (xs (i + 1))) (lw_V q275 q276 q277 q19 q278) (n := 1) (by decide +kernel) rfl (by decide) (by decide) dL_law_168 rfl (Nat.le_of_ble_eq_true rfl) rfl (fun r2 G1 B1 hm => ?_)
  have hfin : r1 = r2 ∧ Rel F1 A1 G1 B1 := by
    exact fin_empty hR hx hm
  exact j_icmp_eq C 439 dL_law_171 (by decide) (fun _ => kont F1 A1 G1 B1 hfin.2) (fun hne => absurd hfin.1 hne)
set_option maxHeartbeats 4000000 in
set_option maxRecDepth 100000 in
theorem l_stop {g : jG} {w : lT} {H0 : Heap} {b N : Nat} {xs : Nat → Int32} (C : jC g cL_law 4) (X : lX g w H0 b N xs) (hN : N ≤ 320) {F G : jF} {A B : jA} {i : Nat} (hi : i + 5 ≤ N) (hR : Rel F A G B) (kont : ∀ (F1 : jF) (A1 : jA) (G1 : jF) (B1 : jA), Rel F1 A1 G1 B1 → J g (lP w H0 F1 A1 G1 B1) 439 [some (.ref b), some (.ref (lhx w)), some (.ref (lhm w)), some (.int (nI i))] []) : J g (lP w H0 F A G B) 176 [some (.ref b), some (.ref (lhx w)), some (.ref (lhm w)), some (.int (nI i))] [] := by
  refine j_aload_n C dL_law_176 rfl ?_
  refine j_aload_n C dL_law_177 rfl ?_
  refine j_iload_n C dL_law_178 rfl ?_
  refine j_iconst C (v := nI 1) dL_law_179 (by decide) ?_
  refine j_iadd C (v := nI (i + 1)) dL_law_180 (nI_add _ _) ?_
  refine l_sld (i + 1) C X dL_law_181 rfl (by omega) hN ?_
  refine l_callx C X (x_stop F A (xs (i + 1))) (lw_V q125 q126 q127 q18 q128) (n := 1) (by decide +kernel) rfl (by decide) (by decide) dL_law_182 rfl (Nat.le_of_ble_eq_true rfl) rfl (fun r1 F1 A1 hx => ?_)
  refine j_aload_n C dL_law_185 rfl ?_
  refine j_aload_n C dL_law_186 rfl ?_
  refine j_iload_n C dL_law_187 rfl ?_
  refine j_iconst C (v := nI 1) dL_law_188 (by decide) ?_
  refine j_iadd C (v := nI (i + 1)) dL_law_189 (nI_add _ _) ?_
  refine l_sld (i + 1) C X dL_law_190 rfl (by omega) hN ?_
  refine l_callm C X (m_stop G B (xs (i + 1))) (lw_V q279 q280 q281 q19 q282) (n := 1) (by decide +kernel) rfl (by decide) (by decide) dL_law_191 rfl (Nat.le_of_ble_eq_true rfl) rfl (fun r2 G1 B1 hm => ?_)
  have hfin : r1 = r2 ∧ Rel F1 A1 G1 B1 := by
    exact fin_stop hR hx hm
  exact j_icmp_eq C 439 dL_law_194 (by decide) (fun _ => kont F1 A1 G1 B1 hfin.2) (fun hne => absurd hfin.1 hne)
set_option maxHeartbeats 4000000 in
set_option maxRecDepth 100000 in
theorem l_go {g : jG} {w : lT} {H0 : Heap} {b N : Nat} {xs : Nat → Int32} (C : jC g cL_law 4) (X : lX g w H0 b N xs) (hN : N ≤ 320) {F G : jF} {A B : jA} {i : Nat} (hi : i + 5 ≤ N) (hR : Rel F A G B) (kont : ∀ (F1 : jF) (A1 : jA) (G1 : jF) (B1 : jA), Rel F1 A1 G1 B1 → J g (lP w H0 F1 A1 G1 B1) 439 [some (.ref b), some (.ref (lhx w)), some (.ref (lhm w)), some (.int (nI i))] []) : J g (lP w H0 F A G B) 199 [some (.ref b), some (.ref (lhx w)), some (.ref (lhm w)), some (.int (nI i))] [] := by
  refine j_aload_n C dL_law_199 rfl ?_
  refine j_aload_n C dL_law_200 rfl ?_
  refine j_iload_n C dL_law_201 rfl ?_
  refine j_iconst C (v := nI 1) dL_law_202 (by decide) ?_
  refine j_iadd C (v := nI (i + 1)) dL_law_203 (nI_add _ _) ?_
  refine l_sld (i + 1) C X dL_law_204 rfl (by omega) hN ?_
  refine j_aload_n C dL_law_205 rfl ?_
  refine j_iload_n C dL_law_206 rfl ?_
  refine j_iconst C (v := nI 2) dL_law_207 (by decide) ?_
  refine j_iadd C (v := nI (i + 2)) dL_law_208 (nI_add _ _) ?_
  refine l_sld (i + 2) C X dL_law_209 rfl (by omega) hN ?_
  refine l_callx C X (x_go F A (xs (i + 1)) (xs (i + 2))) (lw_V q133 q134 q135 q18 q136) (n := 2) (by decide +kernel) rfl (by decide) (by decide) dL_law_210 rfl (Nat.le_of_ble_eq_true rfl) rfl (fun r1 F1 A1 hx => ?_)
  refine j_aload_n C dL_law_213 rfl ?_
  refine j_aload_n C dL_law_214 rfl ?_
  refine j_iload_n C dL_law_215 rfl ?_
  refine j_iconst C (v := nI 1) dL_law_216 (by decide) ?_
  refine j_iadd C (v := nI (i + 1)) dL_law_217 (nI_add _ _) ?_
  refine l_sld (i + 1) C X dL_law_218 rfl (by omega) hN ?_
  refine j_aload_n C dL_law_219 rfl ?_
  refine j_iload_n C dL_law_220 rfl ?_
  refine j_iconst C (v := nI 2) dL_law_221 (by decide) ?_
  refine j_iadd C (v := nI (i + 2)) dL_law_222 (nI_add _ _) ?_
  refine l_sld (i + 2) C X dL_law_223 rfl (by omega) hN ?_
  refine l_callm C X (m_go G B (xs (i + 1)) (xs (i + 2))) (lw_V q283 q284 q285 q19 q286) (n := 2) (by decide +kernel) rfl (by decide) (by decide) dL_law_224 rfl (Nat.le_of_ble_eq_true rfl) rfl (fun r2 G1 B1 hm => ?_)
  have hfin : r1 = r2 ∧ Rel F1 A1 G1 B1 := by
    exact fin_go hR hx hm
  exact j_icmp_eq C 439 dL_law_227 (by decide) (fun _ => kont F1 A1 G1 B1 hfin.2) (fun hne => absurd hfin.1 hne)
set_option maxHeartbeats 4000000 in
set_option maxRecDepth 100000 in
theorem l_branch {g : jG} {w : lT} {H0 : Heap} {b N : Nat} {xs : Nat → Int32} (C : jC g cL_law 4) (X : lX g w H0 b N xs) (hN : N ≤ 320) {F G : jF} {A B : jA} {i : Nat} (hi : i + 5 ≤ N) (hR : Rel F A G B) (kont : ∀ (F1 : jF) (A1 : jA) (G1 : jF) (B1 : jA), Rel F1 A1 G1 B1 → J g (lP w H0 F1 A1 G1 B1) 439 [some (.ref b), some (.ref (lhx w)), some (.ref (lhm w)), some (.int (nI i))] []) : J g (lP w H0 F A G B) 232 [some (.ref b), some (.ref (lhx w)), some (.ref (lhm w)), some (.int (nI i))] [] := by
  refine j_aload_n C dL_law_232 rfl ?_
  refine j_aload_n C dL_law_233 rfl ?_
  refine j_iload_n C dL_law_234 rfl ?_
  refine j_iconst C (v := nI 1) dL_law_235 (by decide) ?_
  refine j_iadd C (v := nI (i + 1)) dL_law_236 (nI_add _ _) ?_
  refine l_sld (i + 1) C X dL_law_237 rfl (by omega) hN ?_
  refine j_aload_n C dL_law_238 rfl ?_
  refine j_iload_n C dL_law_239 rfl ?_
  refine j_iconst C (v := nI 2) dL_law_240 (by decide) ?_
  refine j_iadd C (v := nI (i + 2)) dL_law_241 (nI_add _ _) ?_
  refine l_sld (i + 2) C X dL_law_242 rfl (by omega) hN ?_
  refine j_aload_n C dL_law_243 rfl ?_
  refine j_iload_n C dL_law_244 rfl ?_
  refine j_iconst C (v := nI 3) dL_law_245 (by decide) ?_
  refine j_iadd C (v := nI (i + 3)) dL_law_246 (nI_add _ _) ?_
  refine l_sld (i + 3) C X dL_law_247 rfl (by omega) hN ?_
  refine j_aload_n C dL_law_248 rfl ?_
  refine j_iload_n C dL_law_249 rfl ?_
  refine j_iconst C (v := nI 4) dL_law_250 (by decide) ?_
  refine j_iadd C (v := nI (i + 4)) dL_law_251 (nI_add _ _) ?_
  refine l_sld (i + 4) C X dL_law_252 rfl (by omega) hN ?_
  refine l_callx C X (x_branch F A (xs (i + 1)) (xs (i + 2)) (xs (i + 3)) (xs (i + 4))) (lw_V q137 q138 q139 q18 q140) (n := 4) (by decide +kernel) rfl (by decide) (by decide) dL_law_253 rfl (Nat.le_of_ble_eq_true rfl) rfl (fun r1 F1 A1 hx => ?_)
  refine j_aload_n C dL_law_256 rfl ?_
  refine j_aload_n C dL_law_257 rfl ?_
  refine j_iload_n C dL_law_258 rfl ?_
  refine j_iconst C (v := nI 1) dL_law_259 (by decide) ?_
  refine j_iadd C (v := nI (i + 1)) dL_law_260 (nI_add _ _) ?_
  refine l_sld (i + 1) C X dL_law_261 rfl (by omega) hN ?_
  refine j_aload_n C dL_law_262 rfl ?_
  refine j_iload_n C dL_law_263 rfl ?_
  refine j_iconst C (v := nI 2) dL_law_264 (by decide) ?_
  refine j_iadd C (v := nI (i + 2)) dL_law_265 (nI_add _ _) ?_
  refine l_sld (i + 2) C X dL_law_266 rfl (by omega) hN ?_
  refine j_aload_n C dL_law_267 rfl ?_
  refine j_iload_n C dL_law_268 rfl ?_
  refine j_iconst C (v := nI 3) dL_law_269 (by decide) ?_
  refine j_iadd C (v := nI (i + 3)) dL_law_270 (nI_add _ _) ?_
  refine l_sld (i + 3) C X dL_law_271 rfl (by omega) hN ?_
  refine j_aload_n C dL_law_272 rfl ?_
  refine j_iload_n C dL_law_273 rfl ?_
  refine j_iconst C (v := nI 4) dL_law_274 (by decide) ?_
  refine j_iadd C (v := nI (i + 4)) dL_law_275 (nI_add _ _) ?_
  refine l_sld (i + 4) C X dL_law_276 rfl (by omega) hN ?_
  refine l_callm C X (m_branch G B (xs (i + 1)) (xs (i + 2)) (xs (i + 3)) (xs (i + 4))) (lw_V q287 q288 q289 q19 q290) (n := 4) (by decide +kernel) rfl (by decide) (by decide) dL_law_277 rfl (Nat.le_of_ble_eq_true rfl) rfl (fun r2 G1 B1 hm => ?_)
  have hfin : r1 = r2 ∧ Rel F1 A1 G1 B1 := by
    exact fin_branch hR hx hm
  exact j_icmp_eq C 439 dL_law_280 (by decide) (fun _ => kont F1 A1 G1 B1 hfin.2) (fun hne => absurd hfin.1 hne)
set_option maxHeartbeats 4000000 in
set_option maxRecDepth 100000 in
theorem l_set {g : jG} {w : lT} {H0 : Heap} {b N : Nat} {xs : Nat → Int32} (C : jC g cL_law 4) (X : lX g w H0 b N xs) (hN : N ≤ 320) {F G : jF} {A B : jA} {i : Nat} (hi : i + 5 ≤ N) (hR : Rel F A G B) (kont : ∀ (F1 : jF) (A1 : jA) (G1 : jF) (B1 : jA), Rel F1 A1 G1 B1 → J g (lP w H0 F1 A1 G1 B1) 439 [some (.ref b), some (.ref (lhx w)), some (.ref (lhm w)), some (.int (nI i))] []) : J g (lP w H0 F A G B) 285 [some (.ref b), some (.ref (lhx w)), some (.ref (lhm w)), some (.int (nI i))] [] := by
  refine j_aload_n C dL_law_285 rfl ?_
  refine j_aload_n C dL_law_286 rfl ?_
  refine j_iload_n C dL_law_287 rfl ?_
  refine j_iconst C (v := nI 1) dL_law_288 (by decide) ?_
  refine j_iadd C (v := nI (i + 1)) dL_law_289 (nI_add _ _) ?_
  refine l_sld (i + 1) C X dL_law_290 rfl (by omega) hN ?_
  refine j_aload_n C dL_law_291 rfl ?_
  refine j_iload_n C dL_law_292 rfl ?_
  refine j_iconst C (v := nI 2) dL_law_293 (by decide) ?_
  refine j_iadd C (v := nI (i + 2)) dL_law_294 (nI_add _ _) ?_
  refine l_sld (i + 2) C X dL_law_295 rfl (by omega) hN ?_
  refine l_callx C X (x_set F A (xs (i + 1)) (xs (i + 2))) (lw_V q141 q142 q143 q18 q144) (n := 2) (by decide +kernel) rfl (by decide) (by decide) dL_law_296 rfl (Nat.le_of_ble_eq_true rfl) rfl (fun r1 F1 A1 hx => ?_)
  refine j_aload_n C dL_law_299 rfl ?_
  refine j_aload_n C dL_law_300 rfl ?_
  refine j_iload_n C dL_law_301 rfl ?_
  refine j_iconst C (v := nI 1) dL_law_302 (by decide) ?_
  refine j_iadd C (v := nI (i + 1)) dL_law_303 (nI_add _ _) ?_
  refine l_sld (i + 1) C X dL_law_304 rfl (by omega) hN ?_
  refine j_aload_n C dL_law_305 rfl ?_
  refine j_iload_n C dL_law_306 rfl ?_
  refine j_iconst C (v := nI 2) dL_law_307 (by decide) ?_
  refine j_iadd C (v := nI (i + 2)) dL_law_308 (nI_add _ _) ?_
  refine l_sld (i + 2) C X dL_law_309 rfl (by omega) hN ?_
  refine l_callm C X (m_set G B (xs (i + 1)) (xs (i + 2))) (lw_V q291 q292 q293 q19 q294) (n := 2) (by decide +kernel) rfl (by decide) (by decide) dL_law_310 rfl (Nat.le_of_ble_eq_true rfl) rfl (fun r2 G1 B1 hm => ?_)
  have hfin : r1 = r2 ∧ Rel F1 A1 G1 B1 := by
    exact fin_set hR hx hm
  exact j_icmp_eq C 439 dL_law_313 (by decide) (fun _ => kont F1 A1 G1 B1 hfin.2) (fun hne => absurd hfin.1 hne)
set_option maxHeartbeats 4000000 in
set_option maxRecDepth 100000 in
theorem l_run {g : jG} {w : lT} {H0 : Heap} {b N : Nat} {xs : Nat → Int32} (C : jC g cL_law 4) (X : lX g w H0 b N xs) (hN : N ≤ 320) {F G : jF} {A B : jA} {i : Nat} (hi : i + 5 ≤ N) (hR : Rel F A G B) (kont : ∀ (F1 : jF) (A1 : jA) (G1 : jF) (B1 : jA), Rel F1 A1 G1 B1 → J g (lP w H0 F1 A1 G1 B1) 439 [some (.ref b), some (.ref (lhx w)), some (.ref (lhm w)), some (.int (nI i))] []) : J g (lP w H0 F A G B) 318 [some (.ref b), some (.ref (lhx w)), some (.ref (lhm w)), some (.int (nI i))] [] := by
  refine j_aload_n C dL_law_318 rfl ?_
  obtain ⟨V, hn, hs, ho, hg, h7, hP, hX, hM⟩ := id hR
  refine l_callx C X (x_run F A hs ho (gRel_end hg) h7 hP V hX) (lw_V q145 q146 q147 q18 q148) (n := 0) (by decide +kernel) rfl (by decide) (by decide) dL_law_319 rfl (Nat.le_of_ble_eq_true rfl) rfl (fun r1 F1 A1 hx => ?_)
  refine j_aload_n C dL_law_322 rfl ?_
  refine l_callm C X (m_run G B A hg ho hs V hM) (lw_V q295 q296 q297 q19 q298) (n := 0) (by decide +kernel) rfl (by decide) (by decide) dL_law_323 rfl (Nat.le_of_ble_eq_true rfl) rfl (fun r2 G1 B1 hm => ?_)
  have hfin : r1 = r2 ∧ Rel F1 A1 G1 B1 := by
    obtain ⟨e1, k1, k2, k3, k4⟩ := hx
    obtain ⟨e2, j1, j2⟩ := hm
    have hb := vrun_n hs (gRel_end hg) 300 0 (vz V) (by decide)
    have hz : (vz V).2.1 = 0 := rfl
    exact ⟨by rw [e1, e2], Rel_of (by omega) hs ho hg k2 j2 k3 k4 k1 j1⟩
  exact j_icmp_eq C 439 dL_law_326 (by decide) (fun _ => kont F1 A1 G1 B1 hfin.2) (fun hne => absurd hfin.1 hne)
set_option maxHeartbeats 4000000 in
set_option maxRecDepth 100000 in
theorem l_get {g : jG} {w : lT} {H0 : Heap} {b N : Nat} {xs : Nat → Int32} (C : jC g cL_law 4) (X : lX g w H0 b N xs) (hN : N ≤ 320) {F G : jF} {A B : jA} {i : Nat} (hi : i + 5 ≤ N) (hR : Rel F A G B) (kont : ∀ (F1 : jF) (A1 : jA) (G1 : jF) (B1 : jA), Rel F1 A1 G1 B1 → J g (lP w H0 F1 A1 G1 B1) 439 [some (.ref b), some (.ref (lhx w)), some (.ref (lhm w)), some (.int (nI i))] []) : J g (lP w H0 F A G B) 331 [some (.ref b), some (.ref (lhx w)), some (.ref (lhm w)), some (.int (nI i))] [] := by
  refine j_aload_n C dL_law_331 rfl ?_
  refine j_aload_n C dL_law_332 rfl ?_
  refine j_iload_n C dL_law_333 rfl ?_
  refine j_iconst C (v := nI 1) dL_law_334 (by decide) ?_
  refine j_iadd C (v := nI (i + 1)) dL_law_335 (nI_add _ _) ?_
  refine l_sld (i + 1) C X dL_law_336 rfl (by omega) hN ?_
  refine l_callx C X (x_get F A (xs (i + 1))) (lw_V q193 q194 q195 q18 q196) (n := 1) (by decide +kernel) rfl (by decide) (by decide) dL_law_337 rfl (Nat.le_of_ble_eq_true rfl) rfl (fun r1 F1 A1 hx => ?_)
  refine j_aload_n C dL_law_340 rfl ?_
  refine j_aload_n C dL_law_341 rfl ?_
  refine j_iload_n C dL_law_342 rfl ?_
  refine j_iconst C (v := nI 1) dL_law_343 (by decide) ?_
  refine j_iadd C (v := nI (i + 1)) dL_law_344 (nI_add _ _) ?_
  refine l_sld (i + 1) C X dL_law_345 rfl (by omega) hN ?_
  refine l_callm C X (m_get G B (xs (i + 1))) (lw_V q311 q312 q313 q19 q314) (n := 1) (by decide +kernel) rfl (by decide) (by decide) dL_law_346 rfl (Nat.le_of_ble_eq_true rfl) rfl (fun r2 G1 B1 hm => ?_)
  have hfin : r1 = r2 ∧ Rel F1 A1 G1 B1 := by
    obtain ⟨V, hn, hs, ho, hg, h7, hP, hX, hM⟩ := id hR
    obtain ⟨rfl, rfl, hx⟩ := hx
    obtain ⟨rfl, rfl, hm⟩ := hm
    exact ⟨two_eq (by decide) (fun j _ => by rw [hX.1, hM.1]) hx hm, hR⟩
  exact j_icmp_eq C 439 dL_law_349 (by decide) (fun _ => kont F1 A1 G1 B1 hfin.2) (fun hne => absurd hfin.1 hne)
set_option maxHeartbeats 4000000 in
set_option maxRecDepth 100000 in
theorem l_outputs {g : jG} {w : lT} {H0 : Heap} {b N : Nat} {xs : Nat → Int32} (C : jC g cL_law 4) (X : lX g w H0 b N xs) (hN : N ≤ 320) {F G : jF} {A B : jA} {i : Nat} (hi : i + 5 ≤ N) (hR : Rel F A G B) (kont : ∀ (F1 : jF) (A1 : jA) (G1 : jF) (B1 : jA), Rel F1 A1 G1 B1 → J g (lP w H0 F1 A1 G1 B1) 439 [some (.ref b), some (.ref (lhx w)), some (.ref (lhm w)), some (.int (nI i))] []) : J g (lP w H0 F A G B) 354 [some (.ref b), some (.ref (lhx w)), some (.ref (lhm w)), some (.int (nI i))] [] := by
  refine j_aload_n C dL_law_354 rfl ?_
  refine l_callx C X (x_outputs F A) (lw_V q197 q198 q199 q18 q200) (n := 0) (by decide +kernel) rfl (by decide) (by decide) dL_law_355 rfl (Nat.le_of_ble_eq_true rfl) rfl (fun r1 F1 A1 hx => ?_)
  refine j_aload_n C dL_law_358 rfl ?_
  refine l_callm C X (m_outputs G B) (lw_V q315 q316 q317 q19 q318) (n := 0) (by decide +kernel) rfl (by decide) (by decide) dL_law_359 rfl (Nat.le_of_ble_eq_true rfl) rfl (fun r2 G1 B1 hm => ?_)
  have hfin : r1 = r2 ∧ Rel F1 A1 G1 B1 := by
    obtain ⟨V, hn, hs, ho, hg, h7, hP, hX, hM⟩ := id hR
    obtain ⟨rfl, rfl, hx⟩ := hx
    obtain ⟨rfl, rfl, hm⟩ := hm
    exact ⟨by rw [hx, hm, hX.2.1, hM.2.1], hR⟩
  exact j_icmp_eq C 439 dL_law_362 (by decide) (fun _ => kont F1 A1 G1 B1 hfin.2) (fun hne => absurd hfin.1 hne)
set_option maxHeartbeats 4000000 in
set_option maxRecDepth 100000 in
theorem l_output {g : jG} {w : lT} {H0 : Heap} {b N : Nat} {xs : Nat → Int32} (C : jC g cL_law 4) (X : lX g w H0 b N xs) (hN : N ≤ 320) {F G : jF} {A B : jA} {i : Nat} (hi : i + 5 ≤ N) (hR : Rel F A G B) (kont : ∀ (F1 : jF) (A1 : jA) (G1 : jF) (B1 : jA), Rel F1 A1 G1 B1 → J g (lP w H0 F1 A1 G1 B1) 439 [some (.ref b), some (.ref (lhx w)), some (.ref (lhm w)), some (.int (nI i))] []) : J g (lP w H0 F A G B) 367 [some (.ref b), some (.ref (lhx w)), some (.ref (lhm w)), some (.int (nI i))] [] := by
  refine j_aload_n C dL_law_367 rfl ?_
  refine j_aload_n C dL_law_368 rfl ?_
  refine j_iload_n C dL_law_369 rfl ?_
  refine j_iconst C (v := nI 1) dL_law_370 (by decide) ?_
  refine j_iadd C (v := nI (i + 1)) dL_law_371 (nI_add _ _) ?_
  refine l_sld (i + 1) C X dL_law_372 rfl (by omega) hN ?_
  obtain ⟨V, hn, hs, ho, hg, h7, hP, hX, hM⟩ := id hR
  refine l_callx C X (x_output F A (xs (i + 1)) V.2.1 hX.2.1 hn) (lw_V q201 q202 q203 q18 q204) (n := 1) (by decide +kernel) rfl (by decide) (by decide) dL_law_373 rfl (Nat.le_of_ble_eq_true rfl) rfl (fun r1 F1 A1 hx => ?_)
  refine j_aload_n C dL_law_376 rfl ?_
  refine j_aload_n C dL_law_377 rfl ?_
  refine j_iload_n C dL_law_378 rfl ?_
  refine j_iconst C (v := nI 1) dL_law_379 (by decide) ?_
  refine j_iadd C (v := nI (i + 1)) dL_law_380 (nI_add _ _) ?_
  refine l_sld (i + 1) C X dL_law_381 rfl (by omega) hN ?_
  refine l_callm C X (m_output G B (xs (i + 1)) V.2.1 hM.2.1 hn) (lw_V q319 q320 q321 q19 q322) (n := 1) (by decide +kernel) rfl (by decide) (by decide) dL_law_382 rfl (Nat.le_of_ble_eq_true rfl) rfl (fun r2 G1 B1 hm => ?_)
  have hfin : r1 = r2 ∧ Rel F1 A1 G1 B1 := by
    obtain ⟨rfl, rfl, hx⟩ := hx
    obtain ⟨rfl, rfl, hm⟩ := hm
    exact ⟨fin_output hn hX hM hx hm, hR⟩
  exact j_icmp_eq C 439 dL_law_385 (by decide) (fun _ => kont F1 A1 G1 B1 hfin.2) (fun hne => absurd hfin.1 hne)
set_option maxHeartbeats 4000000 in
set_option maxRecDepth 100000 in
theorem l_visits {g : jG} {w : lT} {H0 : Heap} {b N : Nat} {xs : Nat → Int32} (C : jC g cL_law 4) (X : lX g w H0 b N xs) (hN : N ≤ 320) {F G : jF} {A B : jA} {i : Nat} (hi : i + 5 ≤ N) (hR : Rel F A G B) (kont : ∀ (F1 : jF) (A1 : jA) (G1 : jF) (B1 : jA), Rel F1 A1 G1 B1 → J g (lP w H0 F1 A1 G1 B1) 439 [some (.ref b), some (.ref (lhx w)), some (.ref (lhm w)), some (.int (nI i))] []) : J g (lP w H0 F A G B) 390 [some (.ref b), some (.ref (lhx w)), some (.ref (lhm w)), some (.int (nI i))] [] := by
  refine j_aload_n C dL_law_390 rfl ?_
  refine j_aload_n C dL_law_391 rfl ?_
  refine j_iload_n C dL_law_392 rfl ?_
  refine j_iconst C (v := nI 1) dL_law_393 (by decide) ?_
  refine j_iadd C (v := nI (i + 1)) dL_law_394 (nI_add _ _) ?_
  refine l_sld (i + 1) C X dL_law_395 rfl (by omega) hN ?_
  refine l_callx C X (x_visits F A (xs (i + 1))) (lw_V q205 q206 q207 q18 q208) (n := 1) (by decide +kernel) rfl (by decide) (by decide) dL_law_396 rfl (Nat.le_of_ble_eq_true rfl) rfl (fun r1 F1 A1 hx => ?_)
  refine j_aload_n C dL_law_399 rfl ?_
  refine j_aload_n C dL_law_400 rfl ?_
  refine j_iload_n C dL_law_401 rfl ?_
  refine j_iconst C (v := nI 1) dL_law_402 (by decide) ?_
  refine j_iadd C (v := nI (i + 1)) dL_law_403 (nI_add _ _) ?_
  refine l_sld (i + 1) C X dL_law_404 rfl (by omega) hN ?_
  refine l_callm C X (m_visits G B (xs (i + 1))) (lw_V q323 q324 q325 q19 q326) (n := 1) (by decide +kernel) rfl (by decide) (by decide) dL_law_405 rfl (Nat.le_of_ble_eq_true rfl) rfl (fun r2 G1 B1 hm => ?_)
  have hfin : r1 = r2 ∧ Rel F1 A1 G1 B1 := by
    obtain ⟨V, hn, hs, ho, hg, h7, hP, hX, hM⟩ := id hR
    obtain ⟨rfl, rfl, hx⟩ := hx
    obtain ⟨rfl, rfl, hm⟩ := hm
    exact ⟨two_eq (by decide) (fun j hj => by rw [hX.2.2.2.1 j hj, hM.2.2.2.1 j hj]) hx hm, hR⟩
  exact j_icmp_eq C 439 dL_law_408 (by decide) (fun _ => kont F1 A1 G1 B1 hfin.2) (fun hne => absurd hfin.1 hne)
set_option maxHeartbeats 4000000 in
set_option maxRecDepth 100000 in
theorem l_last {g : jG} {w : lT} {H0 : Heap} {b N : Nat} {xs : Nat → Int32} (C : jC g cL_law 4) (X : lX g w H0 b N xs) (hN : N ≤ 320) {F G : jF} {A B : jA} {i : Nat} (hi : i + 5 ≤ N) (hR : Rel F A G B) (kont : ∀ (F1 : jF) (A1 : jA) (G1 : jF) (B1 : jA), Rel F1 A1 G1 B1 → J g (lP w H0 F1 A1 G1 B1) 439 [some (.ref b), some (.ref (lhx w)), some (.ref (lhm w)), some (.int (nI i))] []) : J g (lP w H0 F A G B) 413 [some (.ref b), some (.ref (lhx w)), some (.ref (lhm w)), some (.int (nI i))] [] := by
  refine j_aload_n C dL_law_413 rfl ?_
  refine l_callx C X (x_last F A) (lw_V q209 q210 q211 q18 q212) (n := 0) (by decide +kernel) rfl (by decide) (by decide) dL_law_414 rfl (Nat.le_of_ble_eq_true rfl) rfl (fun r1 F1 A1 hx => ?_)
  refine j_aload_n C dL_law_417 rfl ?_
  refine l_callm C X (m_last G B) (lw_V q327 q328 q329 q19 q330) (n := 0) (by decide +kernel) rfl (by decide) (by decide) dL_law_418 rfl (Nat.le_of_ble_eq_true rfl) rfl (fun r2 G1 B1 hm => ?_)
  have hfin : r1 = r2 ∧ Rel F1 A1 G1 B1 := by
    obtain ⟨V, hn, hs, ho, hg, h7, hP, hX, hM⟩ := id hR
    obtain ⟨rfl, rfl, hx⟩ := hx
    obtain ⟨rfl, rfl, hm⟩ := hm
    exact ⟨by rw [hx, hm, hX.2.2.2.2, hM.2.2.2.2], hR⟩
  exact j_icmp_eq C 439 dL_law_421 (by decide) (fun _ => kont F1 A1 G1 B1 hfin.2) (fun hne => absurd hfin.1 hne)
set_option maxHeartbeats 4000000 in
set_option maxRecDepth 100000 in
theorem l_reachable {g : jG} {w : lT} {H0 : Heap} {b N : Nat} {xs : Nat → Int32} (C : jC g cL_law 4) (X : lX g w H0 b N xs) (hN : N ≤ 320) {F G : jF} {A B : jA} {i : Nat} (hi : i + 5 ≤ N) (hR : Rel F A G B) (kont : ∀ (F1 : jF) (A1 : jA) (G1 : jF) (B1 : jA), Rel F1 A1 G1 B1 → J g (lP w H0 F1 A1 G1 B1) 439 [some (.ref b), some (.ref (lhx w)), some (.ref (lhm w)), some (.int (nI i))] []) : J g (lP w H0 F A G B) 426 [some (.ref b), some (.ref (lhx w)), some (.ref (lhm w)), some (.int (nI i))] [] := by
  refine j_aload_n C dL_law_426 rfl ?_
  obtain ⟨V, hn, hs, ho, hg, h7, hP, hX, hM⟩ := id hR
  refine l_callx C X (x_reachable F A (gRel_end hg) h7 hP) (lw_V q213 q214 q215 q18 q216) (n := 0) (by decide +kernel) rfl (by decide) (by decide) dL_law_427 rfl (Nat.le_of_ble_eq_true rfl) rfl (fun r1 F1 A1 hx => ?_)
  refine j_aload_n C dL_law_430 rfl ?_
  obtain ⟨e1, k1, k2, k3, k4⟩ := hx
  obtain ⟨c, n, len, o, cp, hO, -⟩ := id k1
  have kA : ∀ k, k < 7 → A1 k = A k := fun k hk => k3 k (by omega) (by omega) (by omega) (by omega) (by omega) (by omega) (by omega) (by omega) (by omega)
  refine l_callm C X (m_reachable G B F1 A1 c o (gRel_congr kA (fun _ _ => rfl) hg) hO) (lw_V q331 q332 q333 q19 q334) (n := 0) (by decide +kernel) rfl (by decide) (by decide) dL_law_431 rfl (Nat.le_of_ble_eq_true rfl) rfl (fun r2 G1 B1 hm => ?_)
  have hfin : r1 = r2 ∧ Rel F1 A1 G1 B1 := by
    obtain ⟨rfl, rfl, e2⟩ := hm
    refine ⟨by rw [e1, e2]; exact hO.2.2.1, Rel_of hn hs ho hg kA (fun _ _ => rfl) k2 k1 (xAbs_fr ?_ ?_ ?_ ?_ ?_ hX) hM⟩
    · exact k3 20 (by decide) (by decide) (by decide) (by decide) (by decide) (by decide) (by decide) (by decide) (by decide)
    · exact k3 24 (by decide) (by decide) (by decide) (by decide) (by decide) (by decide) (by decide) (by decide) (by decide)
    · exact k3 26 (by decide) (by decide) (by decide) (by decide) (by decide) (by decide) (by decide) (by decide) (by decide)
    · exact k4 25 (by decide) (by decide) (by decide) (by decide)
    · exact k4 23 (by decide) (by decide) (by decide) (by decide)
  exact j_icmp_eq C 439 dL_law_434 (by decide) (fun _ => kont F1 A1 G1 B1 hfin.2) (fun hne => absurd hfin.1 hne)
set_option maxHeartbeats 4000000 in
set_option maxRecDepth 100000 in
theorem l_loop {g : jG} {w : lT} {H0 : Heap} {b N : Nat} {xs : Nat → Int32} (C : jC g cL_law 4) (X : lX g w H0 b N xs) (hN : N ≤ 320) (ret : ∀ (F : jF) (A : jA) (G : jF) (B : jA) (L : List (Option Value)), J g (lP w H0 F A G B) 446 L [.int 1]) :
    ∀ (n i : Nat) (F : jF) (A : jA) (G : jF) (B : jA), N < i + n → i ≤ N → Rel F A G B → J g (lP w H0 F A G B) 18 [some (.ref b), some (.ref (lhx w)), some (.ref (lhm w)), some (.int (nI i))] [] := by
  intro n
  induction n with
  | zero =>
    intro i F A G B h1 h2
    omega
  | succ n ih =>
    intro i F A G B h1 h2 hR
    refine j_iload_n C dL_law_18 rfl ?_
    refine j_aload_n C dL_law_19 rfl ?_
    refine l_slen C X dL_law_20 ?_
    refine j_iconst C (v := nI 5) dL_law_21 (by decide) ?_
    refine j_isub C (v := nI N - nI 5) dL_law_22 rfl ?_
    have hx : ((nI N : Int32) - nI 5).toInt = (N : Int) - (5 : Nat) := pk_sub_toInt (by omega) (by omega)
    have hy : (nI i : Int32).toInt = (i : Int) := nI_toInt (by omega)
    refine j_icmp_gt C 445 dL_law_23 (by decide) (fun hc => ?_) (fun hc => ?_)
    · refine j_iconst C (v := 1) dL_law_445 (by decide) ?_
      exact ret F A G B _
    · have hi : i + 5 ≤ N := by
        rw [Int32.lt_iff_toInt_lt, hx, hy] at hc
        omega
      have kont : ∀ (F1 : jF) (A1 : jA) (G1 : jF) (B1 : jA), Rel F1 A1 G1 B1 → J g (lP w H0 F1 A1 G1 B1) 439 [some (.ref b), some (.ref (lhx w)), some (.ref (lhm w)), some (.int (nI i))] [] := by
        intro F1 A1 G1 B1 hR1
        refine j_iinc C (v := nI (i + 5)) (L' := [some (.ref b), some (.ref (lhx w)), some (.ref (lhm w)), some (.int (nI (i + 5)))]) dL_law_439 rfl (nI_add _ _) (Nat.le_of_ble_eq_true rfl) rfl rfl ?_
        refine j_goto C 18 dL_law_442 (by decide) ?_
        exact ih (i + 5) F1 A1 G1 B1 (by omega) hi hR1
      refine j_aload_n C dL_law_26 rfl ?_
      refine j_iload_n C dL_law_27 rfl ?_
      refine l_sld i C X dL_law_28 rfl (by omega) hN ?_
      refine j_bipush C (v := nI 15) dL_law_29 (by decide) ?_
      obtain ⟨k, hk, ek⟩ := and15 (xs i)
      refine j_iand C (v := nI k) dL_law_31 ek ?_
      rcases (show k = 0 ∨ k = 1 ∨ k = 2 ∨ k = 3 ∨ k = 4 ∨ k = 5 ∨ k = 6 ∨ k = 7 ∨ k = 8 ∨ k = 9 ∨ k = 10 ∨ k = 11 ∨ k = 12 ∨ k = 13 ∨ k = 14 ∨ k = 15 by omega) with rfl | rfl | rfl | rfl | rfl | rfl | rfl | rfl | rfl | rfl | rfl | rfl | rfl | rfl | rfl | rfl
      · refine j_tableIn C (off := 68) 100 dL_law_32 (by decide) (by decide) (by decide) (by decide) ?_
        exact l_assign C X hN hi hR kont
      · refine j_tableIn C (off := 121) 153 dL_law_32 (by decide) (by decide) (by decide) (by decide) ?_
        exact l_empty C X hN hi hR kont
      · refine j_tableIn C (off := 144) 176 dL_law_32 (by decide) (by decide) (by decide) (by decide) ?_
        exact l_stop C X hN hi hR kont
      · refine j_tableIn C (off := 167) 199 dL_law_32 (by decide) (by decide) (by decide) (by decide) ?_
        exact l_go C X hN hi hR kont
      · refine j_tableIn C (off := 200) 232 dL_law_32 (by decide) (by decide) (by decide) (by decide) ?_
        exact l_branch C X hN hi hR kont
      · refine j_tableIn C (off := 253) 285 dL_law_32 (by decide) (by decide) (by decide) (by decide) ?_
        exact l_set C X hN hi hR kont
      · refine j_tableIn C (off := 286) 318 dL_law_32 (by decide) (by decide) (by decide) (by decide) ?_
        exact l_run C X hN hi hR kont
      · refine j_tableIn C (off := 299) 331 dL_law_32 (by decide) (by decide) (by decide) (by decide) ?_
        exact l_get C X hN hi hR kont
      · refine j_tableIn C (off := 322) 354 dL_law_32 (by decide) (by decide) (by decide) (by decide) ?_
        exact l_outputs C X hN hi hR kont
      · refine j_tableIn C (off := 335) 367 dL_law_32 (by decide) (by decide) (by decide) (by decide) ?_
        exact l_output C X hN hi hR kont
      · refine j_tableIn C (off := 358) 390 dL_law_32 (by decide) (by decide) (by decide) (by decide) ?_
        exact l_visits C X hN hi hR kont
      · refine j_tableIn C (off := 381) 413 dL_law_32 (by decide) (by decide) (by decide) (by decide) ?_
        exact l_last C X hN hi hR kont
      · refine j_tableIn C (off := 394) 426 dL_law_32 (by decide) (by decide) (by decide) (by decide) ?_
        exact l_reachable C X hN hi hR kont
      · refine j_tableOut C 439 dL_law_32 (by decide) (by decide) ?_
        exact kont F A G B hR
      · refine j_tableOut C 439 dL_law_32 (by decide) (by decide) ?_
        exact kont F A G B hR
      · refine j_tableOut C 439 dL_law_32 (by decide) (by decide) ?_
        exact kont F A G B hR
end
section
/-! the constructors: a world while its arrays come -/
def iP (D : va_G) (A0 : Nat → Prop) (H0 : Heap) (ws : va_W) (H : Heap) (locs : List Loc) : Prop := va_P D vwCl ws H ∧ va_D A0 ws ∧ va_S A0 H0 H locs
section AL
variable {p : Program} {l : Launch} {e : Env} {R : Room} {s : State} {m : MethodId} {args : Array Value} {below : List Frame} {meth : Method} {c : Code} {Q : State → Prop} {cells slots : Nat} {cc : ByteArray} {nL pc : Nat} {L : List (Option Value)} {st : List Value} {D : va_G} {d : ClassId} {h : Nat} {A0 : Nat → Prop} {H0 : Heap} {fs : List Value} {arr : va_W}
theorem x_alloc (C : jC (p, l, e, R, s, m, args, below, meth, c, Q, cells, slots) cc nL) (hts : ∀ w ∈ lw_all, w.before args s = true) (hown : s.vm.findClass RX0 = some m.cls) (hK : va_K D vwCl [(d, .int)] s) (hA : ∀ q, H0.size ≤ q → A0 q) (hin2 : meth.name = "<init>") (k idx N : Nat) (hk : k < 27) (hfin : (TX0 k).2.2.2 = true) (hdecl : (TX0 k).1 = RX0) (hdesc : parseFieldDescriptor (TX0 k).2.2.1 = some (.array .int)) (hlink : Cond.fieldLink RX0 idx RX0 (TX0 k).2.1 (TX0 k).2.2.1 ∈ lw_all) (hN : N < 2 ^ 20) (hfl : k < fs.length) (hcells : cells + 1 ≤ R.cells) (hslots : slots + N ≤ R.slots) {c1 s1 pc1 : Nat} {ws1 : Nat → va_W} (ec : cells + 1 = c1) (es : slots + N = s1) (ep : pc + 5 = pc1) (ew : ∀ q : Nat, (h, .inr (0, fs.set k (.ref q))) :: (arr ++ [(q, .inl (d, N, .inl (fun _ => 0)))]) = ws1 q) (hd1 : decode cc pc = .ok (.newarray .int, 2)) (hd2 : decode cc (pc + 2) = .ok (.putfield idx, 3))
    (kk : ∀ q : Nat, J (p, l, e, R, s, m, args, below, meth, c, Q, c1, s1) (iP D A0 H0 (ws1 q)) pc1 L st) : J (p, l, e, R, s, m, args, below, meth, c, Q, cells, slots) (iP D A0 H0 ((h, .inr (0, fs)) :: arr)) pc L (.int (nI N) :: .ref h :: st) := by
  intro H locs ls hPP hl
  obtain ⟨hP, hD, hS⟩ := hPP
  subst ec
  subst es
  subst ep
  refine va_newa (atype := .int) (ty := .int) (a0 := (N, .inl (fun _ => 0))) C.1 C.2.1 (hts _ q110) rfl hK hP hD hS hA (fun cA => rfl) (nI_pos (by omega)) (nI_clamp (by omega)) (by show N * 4 ≤ 536870912; omega) hcells hslots hd1 (fun q cA H1 hK1 hP1 hD1 hS1 => ?_)
  have hcA : cA = d := by
    have h1 := (hK1.2 0 _ rfl).2
    have h2 := (hK1.2 1 _ rfl).2
    exact Option.some.inj (h2.symm.trans h1)
  subst hcA
  exact va_putF (D := D) (ci := 0) (v := .ref q) (ty := .array .int) (C := RX0) (T := TX0) (N := 27) C.1 C.2.1 hts in_X0 tyX0 tyX0_ok nmX0 hown hK hP1 hD1 hS1 0 rfl rfl k hk (hts _ hlink) (fun _ h9 => by rw [hdecl] at h9; exact h9) hfin hin2 hdecl hdesc rfl rfl hfl hd2 (fun H2 locs2 hP2 hD2 hS2 => kk q H2 locs2 ls ⟨by rw [← ew]; exact hP2, by rw [← ew]; exact hD2, hS2⟩ hl)
theorem m_alloc (C : jC (p, l, e, R, s, m, args, below, meth, c, Q, cells, slots) cc nL) (hts : ∀ w ∈ lw_all, w.before args s = true) (hown : s.vm.findClass RX1 = some m.cls) (hK : va_K D vwCl [(d, .int)] s) (hA : ∀ q, H0.size ≤ q → A0 q) (hin2 : meth.name = "<init>") (k idx N : Nat) (hk : k < 13) (hfin : (TX1 k).2.2.2 = true) (hdecl : (TX1 k).1 = RX1) (hdesc : parseFieldDescriptor (TX1 k).2.2.1 = some (.array .int)) (hlink : Cond.fieldLink RX1 idx RX1 (TX1 k).2.1 (TX1 k).2.2.1 ∈ lw_all) (hN : N < 2 ^ 20) (hfl : k < fs.length) (hcells : cells + 1 ≤ R.cells) (hslots : slots + N ≤ R.slots) {c1 s1 pc1 : Nat} {ws1 : Nat → va_W} (ec : cells + 1 = c1) (es : slots + N = s1) (ep : pc + 5 = pc1) (ew : ∀ q : Nat, (h, .inr (1, fs.set k (.ref q))) :: (arr ++ [(q, .inl (d, N, .inl (fun _ => 0)))]) = ws1 q) (hd1 : decode cc pc = .ok (.newarray .int, 2)) (hd2 : decode cc (pc + 2) = .ok (.putfield idx, 3))
    (kk : ∀ q : Nat, J (p, l, e, R, s, m, args, below, meth, c, Q, c1, s1) (iP D A0 H0 (ws1 q)) pc1 L st) : J (p, l, e, R, s, m, args, below, meth, c, Q, cells, slots) (iP D A0 H0 ((h, .inr (1, fs)) :: arr)) pc L (.int (nI N) :: .ref h :: st) := by
  intro H locs ls hPP hl
  obtain ⟨hP, hD, hS⟩ := hPP
  subst ec
  subst es
  subst ep
  refine va_newa (atype := .int) (ty := .int) (a0 := (N, .inl (fun _ => 0))) C.1 C.2.1 (hts _ q110) rfl hK hP hD hS hA (fun cA => rfl) (nI_pos (by omega)) (nI_clamp (by omega)) (by show N * 4 ≤ 536870912; omega) hcells hslots hd1 (fun q cA H1 hK1 hP1 hD1 hS1 => ?_)
  have hcA : cA = d := by
    have h1 := (hK1.2 0 _ rfl).2
    have h2 := (hK1.2 1 _ rfl).2
    exact Option.some.inj (h2.symm.trans h1)
  subst hcA
  exact va_putF (D := D) (ci := 1) (v := .ref q) (ty := .array .int) (C := RX1) (T := TX1) (N := 13) C.1 C.2.1 hts in_X1 tyX1 tyX1_ok nmX1 hown hK hP1 hD1 hS1 0 rfl rfl k hk (hts _ hlink) (fun _ h9 => by rw [hdecl] at h9; exact h9) hfin hin2 hdecl hdesc rfl rfl hfl hd2 (fun H2 locs2 hP2 hD2 hS2 => kk q H2 locs2 ls ⟨by rw [← ew]; exact hP2, by rw [← ew]; exact hD2, hS2⟩ hl)
end AL
set_option maxHeartbeats 4000000 in
set_option maxRecDepth 100000 in
theorem x_in_loop {g : jG} {w : xT} {F : jF} (C : jC g cX0_init 2) (X : xX g w 0) (A0 : jA) (hend : ∀ A : jA, (∀ k, k ≠ 4 → k ≠ 5 → k ≠ 6 → A k = A0 k) → (∀ j, j < 10 → A 4 j = -1 ∧ A 5 j = -1 ∧ A 6 j = -1) → J g (xP w F A) 190 [some (.ref (xh w)), some (.int (nI 10))] []) :
    ∀ (n b : Nat) (A : jA), b + n = 10 → (∀ k, k ≠ 4 → k ≠ 5 → k ≠ 6 → A k = A0 k) → (∀ j, j < b → A 4 j = -1 ∧ A 5 j = -1 ∧ A 6 j = -1) → J g (xP w F A) 157 [some (.ref (xh w)), some (.int (nI b))] [] := by
  intro n
  induction n with
  | zero =>
    intro b A hb h1 h2
    obtain rfl : b = 10 := by omega
    refine j_iload_n C dX0_init_157 rfl ?_
    refine j_bipush C (v := nI (10)) dX0_init_158 (by decide) ?_
    refine j_icmp_ge C 190 dX0_init_160 (by decide) (fun c_160 => ?_) (fun c_160 => ?_)
    · skip
      have c_160 : 10 ≤ 10 := (nI_leI (a := 10) (b := 10) (by omega) (by omega)).mp c_160
      exact hend A h1 h2
    · skip
      have c_160 : ¬ 10 ≤ 10 := fun hh => c_160 ((nI_leI (a := 10) (b := 10) (by omega) (by omega)).mpr hh)
      omega
  | succ n ih =>
    intro b A hb h1 h2
    refine j_iload_n C dX0_init_157 rfl ?_
    refine j_bipush C (v := nI (10)) dX0_init_158 (by decide) ?_
    refine j_icmp_ge C 190 dX0_init_160 (by decide) (fun c_160 => ?_) (fun c_160 => ?_)
    · skip
      have c_160 : 10 ≤ b := (nI_leI (a := 10) (b := b) (by omega) (by omega)).mp c_160
      omega
    · skip
      have c_160 : ¬ 10 ≤ b := fun hh => c_160 ((nI_leI (a := 10) (b := b) (by omega) (by omega)).mpr hh)
      refine j_aload_n C dX0_init_163 rfl ?_
      refine x_get_test C X dX0_init_164 ?_
      refine j_iload_n C dX0_init_167 rfl ?_
      refine j_iconst C (v := -1) dX0_init_168 (by decide) ?_
      obtain ⟨A_1, eA_1⟩ : ∃ Z, va_up A 4 (upd (A 4) (b) (-1)) = Z := ⟨_, rfl⟩
      refine x_ast_test (b) C X dX0_init_169 rfl (by omega) eA_1 ?_
      refine j_aload_n C dX0_init_170 rfl ?_
      refine x_get_first C X dX0_init_171 ?_
      refine j_iload_n C dX0_init_174 rfl ?_
      refine j_iconst C (v := -1) dX0_init_175 (by decide) ?_
      obtain ⟨A_2, eA_2⟩ : ∃ Z, va_up A_1 5 (upd (A_1 5) (b) (-1)) = Z := ⟨_, rfl⟩
      refine x_ast_first (b) C X dX0_init_176 rfl (by omega) eA_2 ?_
      refine j_aload_n C dX0_init_177 rfl ?_
      refine x_get_second C X dX0_init_178 ?_
      refine j_iload_n C dX0_init_181 rfl ?_
      refine j_iconst C (v := -1) dX0_init_182 (by decide) ?_
      obtain ⟨A_3, eA_3⟩ : ∃ Z, va_up A_2 6 (upd (A_2 6) (b) (-1)) = Z := ⟨_, rfl⟩
      refine x_ast_second (b) C X dX0_init_183 rfl (by omega) eA_3 ?_
      refine j_iinc C (v := nI (b + 1)) (L' := [some (.ref (xh w)), some (.int (nI (b + 1)))]) dX0_init_184 rfl (nI_1 _) (Nat.le_of_ble_eq_true rfl) rfl rfl ?_
      refine j_goto C 157 dX0_init_187 (by decide) ?_
      refine ih (b + 1) A_3 (by omega) (fun k k1 k2 k3 => ?_) (fun j hj => ?_)
      · rw [← eA_3, up_n k3, ← eA_2, up_n k2, ← eA_1, up_n k1]; exact h1 k k1 k2 k3
      · rw [← eA_3, up_n (show (4 : Nat) ≠ 6 by decide), up_n (show (5 : Nat) ≠ 6 by decide), up_s, ← eA_2, up_n (show (4 : Nat) ≠ 5 by decide), up_s, up_n (show (6 : Nat) ≠ 5 by decide), ← eA_1, up_s, up_n (show (5 : Nat) ≠ 4 by decide), up_n (show (6 : Nat) ≠ 4 by decide)]
        by_cases hx : j = b
        · subst hx
          rw [pk_us, pk_us, pk_us]
          exact ⟨rfl, rfl, rfl⟩
        · rw [pk_un hx, pk_un hx, pk_un hx]
          exact h2 j (by omega)
def xfs0 : List Value := [.null, .null, .null, .null, .null, .null, .null, .int 0, .int 0, .null, .null, .null, .null, .int 0, .null, .null, .int 0, .null, .null, .null, .null, .int 0, .int 0, .int 0, .null, .int 0, .null]
def mfs0 : List Value := [.null, .null, .null, .null, .null, .null, .null, .null, .null, .int 0, .null, .null, .int 0]
def xInit : Prop := ∀ (l : Launch) (D : va_G) (d : ClassId) (h sz : Nat), Met l yX0_init (ws_ yX0_init cX0_init 2 none) ({ frames := 1, cells := 19, slots := 390, locals := 30 } : Room) (va_Pc [.ref h] (fun U => U.heap.size = sz ∧ va_P D vwCl [(h, .inr (0, xfs0))] U.heap ∧ va_K D vwCl [(d, .int)] U ∧ va_D (fun _ => True) [(h, .inr (0, xfs0))])) (va_Qv (fun (u : (Nat → Nat) × jF × jA) => u.2.1 = upd (fun _ => 0) 23 (-1) ∧ (∀ k, k ≠ 4 → k ≠ 5 → k ≠ 6 → u.2.2 k = fun _ => 0) ∧ ∀ j, j < 10 → u.2.2 4 j = -1 ∧ u.2.2 5 j = -1 ∧ u.2.2 6 j = -1) (fun u t => va_P D vwCl (xW h u.1 d u.2.1 u.2.2) t.heap ∧ va_K D vwCl [(d, .int)] t ∧ va_D (va_A [(h, .inr (0, xfs0))] sz) (xW h u.1 d u.2.1 u.2.2)) (va_A [(h, .inr (0, xfs0))] sz)) 19 390 (va_A [(h, .inr (0, xfs0))] sz)
set_option maxHeartbeats 4000000 in
set_option maxRecDepth 100000 in
theorem x_init : xInit := by
  intro l D d h sz
  refine Met.ofW (cc := cX0_init) (maxL := 2) (ret := none) (by decide) rfl ?_
  intro p e s m args below meth c s₁ B hml hv
  obtain ⟨rfl, hsz, hP, hK, hD0⟩ := hv
  have hts := atoms_spec (ws := ws_ yX0_init cX0_init 2 none) B.pre
  have hts : ∀ w ∈ lw_all, w.before _ s = true := fun w h => hts w (List.mem_cons_of_mem _ h)
  have hown : s.vm.findClass RX0 = some m.cls := findClass_of_methodNamed B.named
  have hin : meth.name = "<init>" := (name_of_methodNamed B.named B.method).1
  subst hsz
  have hD := hD0.self (sz := s.heap.size)
  generalize hAe : va_A [(h, .inr (0, xfs0))] s.heap.size = A0 at hD ⊢
  have hA : ∀ q : Nat, s.heap.size ≤ q → A0 q := fun q h => by rw [← hAe]; exact Or.inr h
  have hS : va_S A0 s.heap s.heap [] := va_S.rf
  rw [lg_entry_eq]
  have hl := lv_entry [.ref h] (n := 2) (Nat.le_of_ble_eq_true rfl)
  generalize (lg_sl ([.ref h]) ++ List.replicate (2 - (lg_sl ([.ref h])).length) Slot.unset).toArray = ls at hl ⊢
  have hl : lv_has ls 2 [(0, .ref h)] := hl
  refine lv_aload_n B.exec B.bytes dX0_init_0 rfl (lv_at hl 0 rfl) ?_
  refine W.objInit B.exec B.bytes hown (hts _ q25) (hts _ q26) (hts _ q27) rfl (by rw [hml]; exact hl.1) rfl dX0_init_1 (Nat.le_of_ble_eq_true rfl) (Nat.le_of_ble_eq_true rfl) ?_
  refine W.eq (g2 := F0 m 4 ls []) rfl ?_
  have hl : lv_has ls ([some (.ref (h)), none] : List (Option Value)).length (lvs 0 [some (.ref (h)), none]) := hl
  refine (show J (p, l, e, ({ frames := 1, cells := 19, slots := 390, locals := 30 } : Room), s, m, _, below, meth, c, _, 0, 0) (iP D A0 s.heap [(h, .inr (0, xfs0))]) 4 [some (.ref (h)), none] [] from ?_) s.heap [] ls ⟨hP, hD, hS⟩ hl
  have C : ∀ cells slots Q, jC (p, l, e, ({ frames := 1, cells := 19, slots := 390, locals := 30 } : Room), s, m, ([.ref h] : List Value).toArray, below, meth, c, Q, cells, slots) cX0_init 2 := fun _ _ _ => ⟨B.exec, B.bytes, hml⟩
  refine (show J (p, l, e, ({ frames := 1, cells := 19, slots := 390, locals := 30 } : Room), s, m, _, below, meth, c, _, 0, 0) (iP D A0 s.heap [(h, .inr (0, [.null, .null, .null, .null, .null, .null, .null, .int 0, .int 0, .null, .null, .null, .null, .int 0, .null, .null, .int 0, .null, .null, .null, .null, .int 0, .int 0, .int 0, .null, .int 0, .null]))]) 4 [some (.ref (h)), none] [] from ?_)
  refine j_aload_n (C _ _ _) dX0_init_4 rfl ?_
  refine j_bipush (C _ _ _) (v := nI 10) dX0_init_5 (by decide) ?_
  refine x_alloc (C _ _ _) hts hown hK hA hin 0 7 10 (by decide) rfl rfl (by decide +kernel) q28 (by decide) (Nat.le_of_ble_eq_true rfl) (Nat.le_of_ble_eq_true rfl) (Nat.le_of_ble_eq_true rfl) (c1 := 1) (s1 := 10) (pc1 := 12) (ws1 := fun q_0 => [(h, .inr (0, [.ref q_0, .null, .null, .null, .null, .null, .null, .int 0, .int 0, .null, .null, .null, .null, .int 0, .null, .null, .int 0, .null, .null, .null, .null, .int 0, .int 0, .int 0, .null, .int 0, .null])), (q_0, .inl (d, 10, .inl (fun _ => 0)))]) rfl rfl rfl (fun _ => rfl) dX0_init_7 dX0_init_9 (fun q_0 => ?_)
  refine j_aload_n (C _ _ _) dX0_init_12 rfl ?_
  refine j_bipush (C _ _ _) (v := nI 30) dX0_init_13 (by decide) ?_
  refine x_alloc (C _ _ _) hts hown hK hA hin 1 13 30 (by decide) rfl rfl (by decide +kernel) q29 (by decide) (Nat.le_of_ble_eq_true rfl) (Nat.le_of_ble_eq_true rfl) (Nat.le_of_ble_eq_true rfl) (c1 := 2) (s1 := 40) (pc1 := 20) (ws1 := fun q_1 => [(h, .inr (0, [.ref q_0, .ref q_1, .null, .null, .null, .null, .null, .int 0, .int 0, .null, .null, .null, .null, .int 0, .null, .null, .int 0, .null, .null, .null, .null, .int 0, .int 0, .int 0, .null, .int 0, .null])), (q_0, .inl (d, 10, .inl (fun _ => 0))), (q_1, .inl (d, 30, .inl (fun _ => 0)))]) rfl rfl rfl (fun _ => rfl) dX0_init_15 dX0_init_17 (fun q_1 => ?_)
  refine j_aload_n (C _ _ _) dX0_init_20 rfl ?_
  refine j_bipush (C _ _ _) (v := nI 30) dX0_init_21 (by decide) ?_
  refine x_alloc (C _ _ _) hts hown hK hA hin 2 16 30 (by decide) rfl rfl (by decide +kernel) q30 (by decide) (Nat.le_of_ble_eq_true rfl) (Nat.le_of_ble_eq_true rfl) (Nat.le_of_ble_eq_true rfl) (c1 := 3) (s1 := 70) (pc1 := 28) (ws1 := fun q_2 => [(h, .inr (0, [.ref q_0, .ref q_1, .ref q_2, .null, .null, .null, .null, .int 0, .int 0, .null, .null, .null, .null, .int 0, .null, .null, .int 0, .null, .null, .null, .null, .int 0, .int 0, .int 0, .null, .int 0, .null])), (q_0, .inl (d, 10, .inl (fun _ => 0))), (q_1, .inl (d, 30, .inl (fun _ => 0))), (q_2, .inl (d, 30, .inl (fun _ => 0)))]) rfl rfl rfl (fun _ => rfl) dX0_init_23 dX0_init_25 (fun q_2 => ?_)
  refine j_aload_n (C _ _ _) dX0_init_28 rfl ?_
  refine j_bipush (C _ _ _) (v := nI 30) dX0_init_29 (by decide) ?_
  refine x_alloc (C _ _ _) hts hown hK hA hin 3 19 30 (by decide) rfl rfl (by decide +kernel) q31 (by decide) (Nat.le_of_ble_eq_true rfl) (Nat.le_of_ble_eq_true rfl) (Nat.le_of_ble_eq_true rfl) (c1 := 4) (s1 := 100) (pc1 := 36) (ws1 := fun q_3 => [(h, .inr (0, [.ref q_0, .ref q_1, .ref q_2, .ref q_3, .null, .null, .null, .int 0, .int 0, .null, .null, .null, .null, .int 0, .null, .null, .int 0, .null, .null, .null, .null, .int 0, .int 0, .int 0, .null, .int 0, .null])), (q_0, .inl (d, 10, .inl (fun _ => 0))), (q_1, .inl (d, 30, .inl (fun _ => 0))), (q_2, .inl (d, 30, .inl (fun _ => 0))), (q_3, .inl (d, 30, .inl (fun _ => 0)))]) rfl rfl rfl (fun _ => rfl) dX0_init_31 dX0_init_33 (fun q_3 => ?_)
  refine j_aload_n (C _ _ _) dX0_init_36 rfl ?_
  refine j_bipush (C _ _ _) (v := nI 10) dX0_init_37 (by decide) ?_
  refine x_alloc (C _ _ _) hts hown hK hA hin 4 22 10 (by decide) rfl rfl (by decide +kernel) q32 (by decide) (Nat.le_of_ble_eq_true rfl) (Nat.le_of_ble_eq_true rfl) (Nat.le_of_ble_eq_true rfl) (c1 := 5) (s1 := 110) (pc1 := 44) (ws1 := fun q_4 => [(h, .inr (0, [.ref q_0, .ref q_1, .ref q_2, .ref q_3, .ref q_4, .null, .null, .int 0, .int 0, .null, .null, .null, .null, .int 0, .null, .null, .int 0, .null, .null, .null, .null, .int 0, .int 0, .int 0, .null, .int 0, .null])), (q_0, .inl (d, 10, .inl (fun _ => 0))), (q_1, .inl (d, 30, .inl (fun _ => 0))), (q_2, .inl (d, 30, .inl (fun _ => 0))), (q_3, .inl (d, 30, .inl (fun _ => 0))), (q_4, .inl (d, 10, .inl (fun _ => 0)))]) rfl rfl rfl (fun _ => rfl) dX0_init_39 dX0_init_41 (fun q_4 => ?_)
  refine j_aload_n (C _ _ _) dX0_init_44 rfl ?_
  refine j_bipush (C _ _ _) (v := nI 10) dX0_init_45 (by decide) ?_
  refine x_alloc (C _ _ _) hts hown hK hA hin 5 25 10 (by decide) rfl rfl (by decide +kernel) q33 (by decide) (Nat.le_of_ble_eq_true rfl) (Nat.le_of_ble_eq_true rfl) (Nat.le_of_ble_eq_true rfl) (c1 := 6) (s1 := 120) (pc1 := 52) (ws1 := fun q_5 => [(h, .inr (0, [.ref q_0, .ref q_1, .ref q_2, .ref q_3, .ref q_4, .ref q_5, .null, .int 0, .int 0, .null, .null, .null, .null, .int 0, .null, .null, .int 0, .null, .null, .null, .null, .int 0, .int 0, .int 0, .null, .int 0, .null])), (q_0, .inl (d, 10, .inl (fun _ => 0))), (q_1, .inl (d, 30, .inl (fun _ => 0))), (q_2, .inl (d, 30, .inl (fun _ => 0))), (q_3, .inl (d, 30, .inl (fun _ => 0))), (q_4, .inl (d, 10, .inl (fun _ => 0))), (q_5, .inl (d, 10, .inl (fun _ => 0)))]) rfl rfl rfl (fun _ => rfl) dX0_init_47 dX0_init_49 (fun q_5 => ?_)
  refine j_aload_n (C _ _ _) dX0_init_52 rfl ?_
  refine j_bipush (C _ _ _) (v := nI 10) dX0_init_53 (by decide) ?_
  refine x_alloc (C _ _ _) hts hown hK hA hin 6 28 10 (by decide) rfl rfl (by decide +kernel) q34 (by decide) (Nat.le_of_ble_eq_true rfl) (Nat.le_of_ble_eq_true rfl) (Nat.le_of_ble_eq_true rfl) (c1 := 7) (s1 := 130) (pc1 := 60) (ws1 := fun q_6 => [(h, .inr (0, [.ref q_0, .ref q_1, .ref q_2, .ref q_3, .ref q_4, .ref q_5, .ref q_6, .int 0, .int 0, .null, .null, .null, .null, .int 0, .null, .null, .int 0, .null, .null, .null, .null, .int 0, .int 0, .int 0, .null, .int 0, .null])), (q_0, .inl (d, 10, .inl (fun _ => 0))), (q_1, .inl (d, 30, .inl (fun _ => 0))), (q_2, .inl (d, 30, .inl (fun _ => 0))), (q_3, .inl (d, 30, .inl (fun _ => 0))), (q_4, .inl (d, 10, .inl (fun _ => 0))), (q_5, .inl (d, 10, .inl (fun _ => 0))), (q_6, .inl (d, 10, .inl (fun _ => 0)))]) rfl rfl rfl (fun _ => rfl) dX0_init_55 dX0_init_57 (fun q_6 => ?_)
  refine j_aload_n (C _ _ _) dX0_init_60 rfl ?_
  refine j_bipush (C _ _ _) (v := nI 10) dX0_init_61 (by decide) ?_
  refine x_alloc (C _ _ _) hts hown hK hA hin 9 31 10 (by decide) rfl rfl (by decide +kernel) q37 (by decide) (Nat.le_of_ble_eq_true rfl) (Nat.le_of_ble_eq_true rfl) (Nat.le_of_ble_eq_true rfl) (c1 := 8) (s1 := 140) (pc1 := 68) (ws1 := fun q_9 => [(h, .inr (0, [.ref q_0, .ref q_1, .ref q_2, .ref q_3, .ref q_4, .ref q_5, .ref q_6, .int 0, .int 0, .ref q_9, .null, .null, .null, .int 0, .null, .null, .int 0, .null, .null, .null, .null, .int 0, .int 0, .int 0, .null, .int 0, .null])), (q_0, .inl (d, 10, .inl (fun _ => 0))), (q_1, .inl (d, 30, .inl (fun _ => 0))), (q_2, .inl (d, 30, .inl (fun _ => 0))), (q_3, .inl (d, 30, .inl (fun _ => 0))), (q_4, .inl (d, 10, .inl (fun _ => 0))), (q_5, .inl (d, 10, .inl (fun _ => 0))), (q_6, .inl (d, 10, .inl (fun _ => 0))), (q_9, .inl (d, 10, .inl (fun _ => 0)))]) rfl rfl rfl (fun _ => rfl) dX0_init_63 dX0_init_65 (fun q_9 => ?_)
  refine j_aload_n (C _ _ _) dX0_init_68 rfl ?_
  refine j_bipush (C _ _ _) (v := nI 10) dX0_init_69 (by decide) ?_
  refine x_alloc (C _ _ _) hts hown hK hA hin 10 34 10 (by decide) rfl rfl (by decide +kernel) q38 (by decide) (Nat.le_of_ble_eq_true rfl) (Nat.le_of_ble_eq_true rfl) (Nat.le_of_ble_eq_true rfl) (c1 := 9) (s1 := 150) (pc1 := 76) (ws1 := fun q_10 => [(h, .inr (0, [.ref q_0, .ref q_1, .ref q_2, .ref q_3, .ref q_4, .ref q_5, .ref q_6, .int 0, .int 0, .ref q_9, .ref q_10, .null, .null, .int 0, .null, .null, .int 0, .null, .null, .null, .null, .int 0, .int 0, .int 0, .null, .int 0, .null])), (q_0, .inl (d, 10, .inl (fun _ => 0))), (q_1, .inl (d, 30, .inl (fun _ => 0))), (q_2, .inl (d, 30, .inl (fun _ => 0))), (q_3, .inl (d, 30, .inl (fun _ => 0))), (q_4, .inl (d, 10, .inl (fun _ => 0))), (q_5, .inl (d, 10, .inl (fun _ => 0))), (q_6, .inl (d, 10, .inl (fun _ => 0))), (q_9, .inl (d, 10, .inl (fun _ => 0))), (q_10, .inl (d, 10, .inl (fun _ => 0)))]) rfl rfl rfl (fun _ => rfl) dX0_init_71 dX0_init_73 (fun q_10 => ?_)
  refine j_aload_n (C _ _ _) dX0_init_76 rfl ?_
  refine j_bipush (C _ _ _) (v := nI 11) dX0_init_77 (by decide) ?_
  refine x_alloc (C _ _ _) hts hown hK hA hin 11 37 11 (by decide) rfl rfl (by decide +kernel) q39 (by decide) (Nat.le_of_ble_eq_true rfl) (Nat.le_of_ble_eq_true rfl) (Nat.le_of_ble_eq_true rfl) (c1 := 10) (s1 := 161) (pc1 := 84) (ws1 := fun q_11 => [(h, .inr (0, [.ref q_0, .ref q_1, .ref q_2, .ref q_3, .ref q_4, .ref q_5, .ref q_6, .int 0, .int 0, .ref q_9, .ref q_10, .ref q_11, .null, .int 0, .null, .null, .int 0, .null, .null, .null, .null, .int 0, .int 0, .int 0, .null, .int 0, .null])), (q_0, .inl (d, 10, .inl (fun _ => 0))), (q_1, .inl (d, 30, .inl (fun _ => 0))), (q_2, .inl (d, 30, .inl (fun _ => 0))), (q_3, .inl (d, 30, .inl (fun _ => 0))), (q_4, .inl (d, 10, .inl (fun _ => 0))), (q_5, .inl (d, 10, .inl (fun _ => 0))), (q_6, .inl (d, 10, .inl (fun _ => 0))), (q_9, .inl (d, 10, .inl (fun _ => 0))), (q_10, .inl (d, 10, .inl (fun _ => 0))), (q_11, .inl (d, 11, .inl (fun _ => 0)))]) rfl rfl rfl (fun _ => rfl) dX0_init_79 dX0_init_81 (fun q_11 => ?_)
  refine j_aload_n (C _ _ _) dX0_init_84 rfl ?_
  refine j_bipush (C _ _ _) (v := nI 11) dX0_init_85 (by decide) ?_
  refine x_alloc (C _ _ _) hts hown hK hA hin 12 40 11 (by decide) rfl rfl (by decide +kernel) q40 (by decide) (Nat.le_of_ble_eq_true rfl) (Nat.le_of_ble_eq_true rfl) (Nat.le_of_ble_eq_true rfl) (c1 := 11) (s1 := 172) (pc1 := 92) (ws1 := fun q_12 => [(h, .inr (0, [.ref q_0, .ref q_1, .ref q_2, .ref q_3, .ref q_4, .ref q_5, .ref q_6, .int 0, .int 0, .ref q_9, .ref q_10, .ref q_11, .ref q_12, .int 0, .null, .null, .int 0, .null, .null, .null, .null, .int 0, .int 0, .int 0, .null, .int 0, .null])), (q_0, .inl (d, 10, .inl (fun _ => 0))), (q_1, .inl (d, 30, .inl (fun _ => 0))), (q_2, .inl (d, 30, .inl (fun _ => 0))), (q_3, .inl (d, 30, .inl (fun _ => 0))), (q_4, .inl (d, 10, .inl (fun _ => 0))), (q_5, .inl (d, 10, .inl (fun _ => 0))), (q_6, .inl (d, 10, .inl (fun _ => 0))), (q_9, .inl (d, 10, .inl (fun _ => 0))), (q_10, .inl (d, 10, .inl (fun _ => 0))), (q_11, .inl (d, 11, .inl (fun _ => 0))), (q_12, .inl (d, 11, .inl (fun _ => 0)))]) rfl rfl rfl (fun _ => rfl) dX0_init_87 dX0_init_89 (fun q_12 => ?_)
  refine j_aload_n (C _ _ _) dX0_init_92 rfl ?_
  refine j_bipush (C _ _ _) (v := nI 20) dX0_init_93 (by decide) ?_
  refine x_alloc (C _ _ _) hts hown hK hA hin 14 43 20 (by decide) rfl rfl (by decide +kernel) q42 (by decide) (Nat.le_of_ble_eq_true rfl) (Nat.le_of_ble_eq_true rfl) (Nat.le_of_ble_eq_true rfl) (c1 := 12) (s1 := 192) (pc1 := 100) (ws1 := fun q_14 => [(h, .inr (0, [.ref q_0, .ref q_1, .ref q_2, .ref q_3, .ref q_4, .ref q_5, .ref q_6, .int 0, .int 0, .ref q_9, .ref q_10, .ref q_11, .ref q_12, .int 0, .ref q_14, .null, .int 0, .null, .null, .null, .null, .int 0, .int 0, .int 0, .null, .int 0, .null])), (q_0, .inl (d, 10, .inl (fun _ => 0))), (q_1, .inl (d, 30, .inl (fun _ => 0))), (q_2, .inl (d, 30, .inl (fun _ => 0))), (q_3, .inl (d, 30, .inl (fun _ => 0))), (q_4, .inl (d, 10, .inl (fun _ => 0))), (q_5, .inl (d, 10, .inl (fun _ => 0))), (q_6, .inl (d, 10, .inl (fun _ => 0))), (q_9, .inl (d, 10, .inl (fun _ => 0))), (q_10, .inl (d, 10, .inl (fun _ => 0))), (q_11, .inl (d, 11, .inl (fun _ => 0))), (q_12, .inl (d, 11, .inl (fun _ => 0))), (q_14, .inl (d, 20, .inl (fun _ => 0)))]) rfl rfl rfl (fun _ => rfl) dX0_init_95 dX0_init_97 (fun q_14 => ?_)
  refine j_aload_n (C _ _ _) dX0_init_100 rfl ?_
  refine j_bipush (C _ _ _) (v := nI 20) dX0_init_101 (by decide) ?_
  refine x_alloc (C _ _ _) hts hown hK hA hin 15 46 20 (by decide) rfl rfl (by decide +kernel) q43 (by decide) (Nat.le_of_ble_eq_true rfl) (Nat.le_of_ble_eq_true rfl) (Nat.le_of_ble_eq_true rfl) (c1 := 13) (s1 := 212) (pc1 := 108) (ws1 := fun q_15 => [(h, .inr (0, [.ref q_0, .ref q_1, .ref q_2, .ref q_3, .ref q_4, .ref q_5, .ref q_6, .int 0, .int 0, .ref q_9, .ref q_10, .ref q_11, .ref q_12, .int 0, .ref q_14, .ref q_15, .int 0, .null, .null, .null, .null, .int 0, .int 0, .int 0, .null, .int 0, .null])), (q_0, .inl (d, 10, .inl (fun _ => 0))), (q_1, .inl (d, 30, .inl (fun _ => 0))), (q_2, .inl (d, 30, .inl (fun _ => 0))), (q_3, .inl (d, 30, .inl (fun _ => 0))), (q_4, .inl (d, 10, .inl (fun _ => 0))), (q_5, .inl (d, 10, .inl (fun _ => 0))), (q_6, .inl (d, 10, .inl (fun _ => 0))), (q_9, .inl (d, 10, .inl (fun _ => 0))), (q_10, .inl (d, 10, .inl (fun _ => 0))), (q_11, .inl (d, 11, .inl (fun _ => 0))), (q_12, .inl (d, 11, .inl (fun _ => 0))), (q_14, .inl (d, 20, .inl (fun _ => 0))), (q_15, .inl (d, 20, .inl (fun _ => 0)))]) rfl rfl rfl (fun _ => rfl) dX0_init_103 dX0_init_105 (fun q_15 => ?_)
  refine j_aload_n (C _ _ _) dX0_init_108 rfl ?_
  refine j_bipush (C _ _ _) (v := nI 64) dX0_init_109 (by decide) ?_
  refine x_alloc (C _ _ _) hts hown hK hA hin 17 49 64 (by decide) rfl rfl (by decide +kernel) q45 (by decide) (Nat.le_of_ble_eq_true rfl) (Nat.le_of_ble_eq_true rfl) (Nat.le_of_ble_eq_true rfl) (c1 := 14) (s1 := 276) (pc1 := 116) (ws1 := fun q_17 => [(h, .inr (0, [.ref q_0, .ref q_1, .ref q_2, .ref q_3, .ref q_4, .ref q_5, .ref q_6, .int 0, .int 0, .ref q_9, .ref q_10, .ref q_11, .ref q_12, .int 0, .ref q_14, .ref q_15, .int 0, .ref q_17, .null, .null, .null, .int 0, .int 0, .int 0, .null, .int 0, .null])), (q_0, .inl (d, 10, .inl (fun _ => 0))), (q_1, .inl (d, 30, .inl (fun _ => 0))), (q_2, .inl (d, 30, .inl (fun _ => 0))), (q_3, .inl (d, 30, .inl (fun _ => 0))), (q_4, .inl (d, 10, .inl (fun _ => 0))), (q_5, .inl (d, 10, .inl (fun _ => 0))), (q_6, .inl (d, 10, .inl (fun _ => 0))), (q_9, .inl (d, 10, .inl (fun _ => 0))), (q_10, .inl (d, 10, .inl (fun _ => 0))), (q_11, .inl (d, 11, .inl (fun _ => 0))), (q_12, .inl (d, 11, .inl (fun _ => 0))), (q_14, .inl (d, 20, .inl (fun _ => 0))), (q_15, .inl (d, 20, .inl (fun _ => 0))), (q_17, .inl (d, 64, .inl (fun _ => 0)))]) rfl rfl rfl (fun _ => rfl) dX0_init_111 dX0_init_113 (fun q_17 => ?_)
  refine j_aload_n (C _ _ _) dX0_init_116 rfl ?_
  refine j_bipush (C _ _ _) (v := nI 64) dX0_init_117 (by decide) ?_
  refine x_alloc (C _ _ _) hts hown hK hA hin 18 52 64 (by decide) rfl rfl (by decide +kernel) q46 (by decide) (Nat.le_of_ble_eq_true rfl) (Nat.le_of_ble_eq_true rfl) (Nat.le_of_ble_eq_true rfl) (c1 := 15) (s1 := 340) (pc1 := 124) (ws1 := fun q_18 => [(h, .inr (0, [.ref q_0, .ref q_1, .ref q_2, .ref q_3, .ref q_4, .ref q_5, .ref q_6, .int 0, .int 0, .ref q_9, .ref q_10, .ref q_11, .ref q_12, .int 0, .ref q_14, .ref q_15, .int 0, .ref q_17, .ref q_18, .null, .null, .int 0, .int 0, .int 0, .null, .int 0, .null])), (q_0, .inl (d, 10, .inl (fun _ => 0))), (q_1, .inl (d, 30, .inl (fun _ => 0))), (q_2, .inl (d, 30, .inl (fun _ => 0))), (q_3, .inl (d, 30, .inl (fun _ => 0))), (q_4, .inl (d, 10, .inl (fun _ => 0))), (q_5, .inl (d, 10, .inl (fun _ => 0))), (q_6, .inl (d, 10, .inl (fun _ => 0))), (q_9, .inl (d, 10, .inl (fun _ => 0))), (q_10, .inl (d, 10, .inl (fun _ => 0))), (q_11, .inl (d, 11, .inl (fun _ => 0))), (q_12, .inl (d, 11, .inl (fun _ => 0))), (q_14, .inl (d, 20, .inl (fun _ => 0))), (q_15, .inl (d, 20, .inl (fun _ => 0))), (q_17, .inl (d, 64, .inl (fun _ => 0))), (q_18, .inl (d, 64, .inl (fun _ => 0)))]) rfl rfl rfl (fun _ => rfl) dX0_init_119 dX0_init_121 (fun q_18 => ?_)
  refine j_aload_n (C _ _ _) dX0_init_124 rfl ?_
  refine j_bipush (C _ _ _) (v := nI 20) dX0_init_125 (by decide) ?_
  refine x_alloc (C _ _ _) hts hown hK hA hin 19 55 20 (by decide) rfl rfl (by decide +kernel) q47 (by decide) (Nat.le_of_ble_eq_true rfl) (Nat.le_of_ble_eq_true rfl) (Nat.le_of_ble_eq_true rfl) (c1 := 16) (s1 := 360) (pc1 := 132) (ws1 := fun q_19 => [(h, .inr (0, [.ref q_0, .ref q_1, .ref q_2, .ref q_3, .ref q_4, .ref q_5, .ref q_6, .int 0, .int 0, .ref q_9, .ref q_10, .ref q_11, .ref q_12, .int 0, .ref q_14, .ref q_15, .int 0, .ref q_17, .ref q_18, .ref q_19, .null, .int 0, .int 0, .int 0, .null, .int 0, .null])), (q_0, .inl (d, 10, .inl (fun _ => 0))), (q_1, .inl (d, 30, .inl (fun _ => 0))), (q_2, .inl (d, 30, .inl (fun _ => 0))), (q_3, .inl (d, 30, .inl (fun _ => 0))), (q_4, .inl (d, 10, .inl (fun _ => 0))), (q_5, .inl (d, 10, .inl (fun _ => 0))), (q_6, .inl (d, 10, .inl (fun _ => 0))), (q_9, .inl (d, 10, .inl (fun _ => 0))), (q_10, .inl (d, 10, .inl (fun _ => 0))), (q_11, .inl (d, 11, .inl (fun _ => 0))), (q_12, .inl (d, 11, .inl (fun _ => 0))), (q_14, .inl (d, 20, .inl (fun _ => 0))), (q_15, .inl (d, 20, .inl (fun _ => 0))), (q_17, .inl (d, 64, .inl (fun _ => 0))), (q_18, .inl (d, 64, .inl (fun _ => 0))), (q_19, .inl (d, 20, .inl (fun _ => 0)))]) rfl rfl rfl (fun _ => rfl) dX0_init_127 dX0_init_129 (fun q_19 => ?_)
  refine j_aload_n (C _ _ _) dX0_init_132 rfl ?_
  refine j_iconst (C _ _ _) (v := nI 4) dX0_init_133 (by decide) ?_
  refine x_alloc (C _ _ _) hts hown hK hA hin 20 58 4 (by decide) rfl rfl (by decide +kernel) q48 (by decide) (Nat.le_of_ble_eq_true rfl) (Nat.le_of_ble_eq_true rfl) (Nat.le_of_ble_eq_true rfl) (c1 := 17) (s1 := 364) (pc1 := 139) (ws1 := fun q_20 => [(h, .inr (0, [.ref q_0, .ref q_1, .ref q_2, .ref q_3, .ref q_4, .ref q_5, .ref q_6, .int 0, .int 0, .ref q_9, .ref q_10, .ref q_11, .ref q_12, .int 0, .ref q_14, .ref q_15, .int 0, .ref q_17, .ref q_18, .ref q_19, .ref q_20, .int 0, .int 0, .int 0, .null, .int 0, .null])), (q_0, .inl (d, 10, .inl (fun _ => 0))), (q_1, .inl (d, 30, .inl (fun _ => 0))), (q_2, .inl (d, 30, .inl (fun _ => 0))), (q_3, .inl (d, 30, .inl (fun _ => 0))), (q_4, .inl (d, 10, .inl (fun _ => 0))), (q_5, .inl (d, 10, .inl (fun _ => 0))), (q_6, .inl (d, 10, .inl (fun _ => 0))), (q_9, .inl (d, 10, .inl (fun _ => 0))), (q_10, .inl (d, 10, .inl (fun _ => 0))), (q_11, .inl (d, 11, .inl (fun _ => 0))), (q_12, .inl (d, 11, .inl (fun _ => 0))), (q_14, .inl (d, 20, .inl (fun _ => 0))), (q_15, .inl (d, 20, .inl (fun _ => 0))), (q_17, .inl (d, 64, .inl (fun _ => 0))), (q_18, .inl (d, 64, .inl (fun _ => 0))), (q_19, .inl (d, 20, .inl (fun _ => 0))), (q_20, .inl (d, 4, .inl (fun _ => 0)))]) rfl rfl rfl (fun _ => rfl) dX0_init_134 dX0_init_136 (fun q_20 => ?_)
  refine j_aload_n (C _ _ _) dX0_init_139 rfl ?_
  refine j_bipush (C _ _ _) (v := nI 10) dX0_init_140 (by decide) ?_
  refine x_alloc (C _ _ _) hts hown hK hA hin 24 61 10 (by decide) rfl rfl (by decide +kernel) q52 (by decide) (Nat.le_of_ble_eq_true rfl) (Nat.le_of_ble_eq_true rfl) (Nat.le_of_ble_eq_true rfl) (c1 := 18) (s1 := 374) (pc1 := 147) (ws1 := fun q_24 => [(h, .inr (0, [.ref q_0, .ref q_1, .ref q_2, .ref q_3, .ref q_4, .ref q_5, .ref q_6, .int 0, .int 0, .ref q_9, .ref q_10, .ref q_11, .ref q_12, .int 0, .ref q_14, .ref q_15, .int 0, .ref q_17, .ref q_18, .ref q_19, .ref q_20, .int 0, .int 0, .int 0, .ref q_24, .int 0, .null])), (q_0, .inl (d, 10, .inl (fun _ => 0))), (q_1, .inl (d, 30, .inl (fun _ => 0))), (q_2, .inl (d, 30, .inl (fun _ => 0))), (q_3, .inl (d, 30, .inl (fun _ => 0))), (q_4, .inl (d, 10, .inl (fun _ => 0))), (q_5, .inl (d, 10, .inl (fun _ => 0))), (q_6, .inl (d, 10, .inl (fun _ => 0))), (q_9, .inl (d, 10, .inl (fun _ => 0))), (q_10, .inl (d, 10, .inl (fun _ => 0))), (q_11, .inl (d, 11, .inl (fun _ => 0))), (q_12, .inl (d, 11, .inl (fun _ => 0))), (q_14, .inl (d, 20, .inl (fun _ => 0))), (q_15, .inl (d, 20, .inl (fun _ => 0))), (q_17, .inl (d, 64, .inl (fun _ => 0))), (q_18, .inl (d, 64, .inl (fun _ => 0))), (q_19, .inl (d, 20, .inl (fun _ => 0))), (q_20, .inl (d, 4, .inl (fun _ => 0))), (q_24, .inl (d, 10, .inl (fun _ => 0)))]) rfl rfl rfl (fun _ => rfl) dX0_init_142 dX0_init_144 (fun q_24 => ?_)
  refine j_aload_n (C _ _ _) dX0_init_147 rfl ?_
  refine j_bipush (C _ _ _) (v := nI 16) dX0_init_148 (by decide) ?_
  refine x_alloc (C _ _ _) hts hown hK hA hin 26 64 16 (by decide) rfl rfl (by decide +kernel) q54 (by decide) (Nat.le_of_ble_eq_true rfl) (Nat.le_of_ble_eq_true rfl) (Nat.le_of_ble_eq_true rfl) (c1 := 19) (s1 := 390) (pc1 := 155) (ws1 := fun q_26 => [(h, .inr (0, [.ref q_0, .ref q_1, .ref q_2, .ref q_3, .ref q_4, .ref q_5, .ref q_6, .int 0, .int 0, .ref q_9, .ref q_10, .ref q_11, .ref q_12, .int 0, .ref q_14, .ref q_15, .int 0, .ref q_17, .ref q_18, .ref q_19, .ref q_20, .int 0, .int 0, .int 0, .ref q_24, .int 0, .ref q_26])), (q_0, .inl (d, 10, .inl (fun _ => 0))), (q_1, .inl (d, 30, .inl (fun _ => 0))), (q_2, .inl (d, 30, .inl (fun _ => 0))), (q_3, .inl (d, 30, .inl (fun _ => 0))), (q_4, .inl (d, 10, .inl (fun _ => 0))), (q_5, .inl (d, 10, .inl (fun _ => 0))), (q_6, .inl (d, 10, .inl (fun _ => 0))), (q_9, .inl (d, 10, .inl (fun _ => 0))), (q_10, .inl (d, 10, .inl (fun _ => 0))), (q_11, .inl (d, 11, .inl (fun _ => 0))), (q_12, .inl (d, 11, .inl (fun _ => 0))), (q_14, .inl (d, 20, .inl (fun _ => 0))), (q_15, .inl (d, 20, .inl (fun _ => 0))), (q_17, .inl (d, 64, .inl (fun _ => 0))), (q_18, .inl (d, 64, .inl (fun _ => 0))), (q_19, .inl (d, 20, .inl (fun _ => 0))), (q_20, .inl (d, 4, .inl (fun _ => 0))), (q_24, .inl (d, 10, .inl (fun _ => 0))), (q_26, .inl (d, 16, .inl (fun _ => 0)))]) rfl rfl rfl (fun _ => rfl) dX0_init_150 dX0_init_152 (fun q_26 => ?_)
  obtain ⟨qf, eqf⟩ : ∃ z : Nat → Nat, z = fun k => ([q_0, q_1, q_2, q_3, q_4, q_5, q_6, 0, 0, q_9, q_10, q_11, q_12, 0, q_14, q_15, 0, q_17, q_18, q_19, q_20, 0, 0, 0, q_24, 0, q_26] : List Nat).getD k 0 := ⟨_, rfl⟩
  refine j_weak (P1 := xP (D, d, h, qf, A0, s.heap) (fun _ => 0) (fun _ _ => 0)) (fun H locs hP => by subst eqf; exact hP) ?_
  refine (show ∀ (g : jG) (w : xT), jC g cX0_init 2 → xX g w 0 → xh w = h → (∀ (L : List (Option Value)) (F1 : jF) (A1 : jA), (F1 = upd (fun _ => 0) 23 (-1) ∧ (∀ k, k ≠ 4 → k ≠ 5 → k ≠ 6 → A1 k = fun _ => 0) ∧ ∀ j, j < 10 → A1 4 j = -1 ∧ A1 5 j = -1 ∧ A1 6 j = -1) → J g (xP w F1 A1) 195 L []) → J g (xP w (fun _ => 0) (fun _ _ => 0)) 155 [some (.ref (h)), none] [] from ?_) (p, l, e, ({ frames := 1, cells := 19, slots := 390, locals := 30 } : Room), s, m, ([.ref h] : List Value).toArray, below, meth, c, _, 19, 390) (D, d, h, qf, A0, s.heap) (C _ _ _) ⟨hown, hts, hK, rfl, hA, Nat.zero_le _, Nat.zero_le _, Nat.le_refl _, Nat.le_refl _⟩ rfl (fun L F1 A1 hp H locs ls hP1 hl1 => ?_)
  · intro g w C X hw ret
    rw [← hw]
    refine j_iconst C (v := nI (0)) dX0_init_155 (by decide) ?_
    refine j_istore_n C (L' := [some (.ref (xh w)), some (.int (nI 0))]) dX0_init_156 (Nat.le_of_ble_eq_true rfl) rfl rfl ?_
    refine x_in_loop C X (fun _ _ => 0) (fun A h1 h2 => ?_) 10 0 (fun _ _ => 0) (by omega) (fun _ _ _ _ => rfl) (fun j hj => absurd hj (Nat.not_lt_zero _))
    refine j_aload_n C dX0_init_190 rfl ?_
    refine j_iconst C (v := -1) dX0_init_191 (by decide) ?_
    refine x_put_ended C X dX0_init_192 rfl ?_
    exact ret _ _ _ ⟨rfl, h1, h2⟩
  · exact W.vret B.exec B.bytes B.returns (fun t ht hW => ⟨⟨(qf, F1, A1), rfl, hp, by rw [ht]; exact hP1.1, va_K.moved hW.alike hK, hP1.2.1⟩, hP1.2.2.F ht⟩) hP1.2.2.2.2 dX0_init_195 B.notSynchronized
def mInit : Prop := ∀ (l : Launch) (D : va_G) (d : ClassId) (h sz : Nat), Met l yX1_init (ws_ yX1_init cX1_init 1 none) ({ frames := 1, cells := 11, slots := 170, locals := 30 } : Room) (va_Pc [.ref h] (fun U => U.heap.size = sz ∧ va_P D vwCl [(h, .inr (1, mfs0))] U.heap ∧ va_K D vwCl [(d, .int)] U ∧ va_D (fun _ => True) [(h, .inr (1, mfs0))])) (va_Qv (fun (u : (Nat → Nat) × jF × jA) => u.2.1 = upd (fun _ => 0) 12 (-1) ∧ ∀ k, u.2.2 k = fun _ => 0) (fun u t => va_P D vwCl (mW h u.1 d u.2.1 u.2.2) t.heap ∧ va_K D vwCl [(d, .int)] t ∧ va_D (va_A [(h, .inr (1, mfs0))] sz) (mW h u.1 d u.2.1 u.2.2)) (va_A [(h, .inr (1, mfs0))] sz)) 11 170 (va_A [(h, .inr (1, mfs0))] sz)
set_option maxHeartbeats 4000000 in
set_option maxRecDepth 100000 in
theorem m_init : mInit := by
  intro l D d h sz
  refine Met.ofW (cc := cX1_init) (maxL := 1) (ret := none) (by decide) rfl ?_
  intro p e s m args below meth c s₁ B hml hv
  obtain ⟨rfl, hsz, hP, hK, hD0⟩ := hv
  have hts := atoms_spec (ws := ws_ yX1_init cX1_init 1 none) B.pre
  have hts : ∀ w ∈ lw_all, w.before _ s = true := fun w h => hts w (List.mem_cons_of_mem _ h)
  have hown : s.vm.findClass RX1 = some m.cls := findClass_of_methodNamed B.named
  have hin : meth.name = "<init>" := (name_of_methodNamed B.named B.method).1
  subst hsz
  have hD := hD0.self (sz := s.heap.size)
  generalize hAe : va_A [(h, .inr (1, mfs0))] s.heap.size = A0 at hD ⊢
  have hA : ∀ q : Nat, s.heap.size ≤ q → A0 q := fun q h => by rw [← hAe]; exact Or.inr h
  have hS : va_S A0 s.heap s.heap [] := va_S.rf
  rw [lg_entry_eq]
  have hl := lv_entry [.ref h] (n := 1) (Nat.le_of_ble_eq_true rfl)
  generalize (lg_sl ([.ref h]) ++ List.replicate (1 - (lg_sl ([.ref h])).length) Slot.unset).toArray = ls at hl ⊢
  have hl : lv_has ls 1 [(0, .ref h)] := hl
  refine lv_aload_n B.exec B.bytes dX1_init_0 rfl (lv_at hl 0 rfl) ?_
  refine W.objInit B.exec B.bytes hown (hts _ q222) (hts _ q26) (hts _ q27) rfl (by rw [hml]; exact hl.1) rfl dX1_init_1 (Nat.le_of_ble_eq_true rfl) (Nat.le_of_ble_eq_true rfl) ?_
  refine W.eq (g2 := F0 m 4 ls []) rfl ?_
  have hl : lv_has ls ([some (.ref (h))] : List (Option Value)).length (lvs 0 [some (.ref (h))]) := hl
  refine (show J (p, l, e, ({ frames := 1, cells := 11, slots := 170, locals := 30 } : Room), s, m, _, below, meth, c, _, 0, 0) (iP D A0 s.heap [(h, .inr (1, mfs0))]) 4 [some (.ref (h))] [] from ?_) s.heap [] ls ⟨hP, hD, hS⟩ hl
  have C : ∀ cells slots Q, jC (p, l, e, ({ frames := 1, cells := 11, slots := 170, locals := 30 } : Room), s, m, ([.ref h] : List Value).toArray, below, meth, c, Q, cells, slots) cX1_init 1 := fun _ _ _ => ⟨B.exec, B.bytes, hml⟩
  refine (show J (p, l, e, ({ frames := 1, cells := 11, slots := 170, locals := 30 } : Room), s, m, _, below, meth, c, _, 0, 0) (iP D A0 s.heap [(h, .inr (1, [.null, .null, .null, .null, .null, .null, .null, .null, .null, .int 0, .null, .null, .int 0]))]) 4 [some (.ref (h))] [] from ?_)
  refine j_aload_n (C _ _ _) dX1_init_4 rfl ?_
  refine j_bipush (C _ _ _) (v := nI 10) dX1_init_5 (by decide) ?_
  refine m_alloc (C _ _ _) hts hown hK hA hin 0 7 10 (by decide) rfl rfl (by decide +kernel) q223 (by decide) (Nat.le_of_ble_eq_true rfl) (Nat.le_of_ble_eq_true rfl) (Nat.le_of_ble_eq_true rfl) (c1 := 1) (s1 := 10) (pc1 := 12) (ws1 := fun q_0 => [(h, .inr (1, [.ref q_0, .null, .null, .null, .null, .null, .null, .null, .null, .int 0, .null, .null, .int 0])), (q_0, .inl (d, 10, .inl (fun _ => 0)))]) rfl rfl rfl (fun _ => rfl) dX1_init_7 dX1_init_9 (fun q_0 => ?_)
  refine j_aload_n (C _ _ _) dX1_init_12 rfl ?_
  refine j_bipush (C _ _ _) (v := nI 30) dX1_init_13 (by decide) ?_
  refine m_alloc (C _ _ _) hts hown hK hA hin 1 13 30 (by decide) rfl rfl (by decide +kernel) q224 (by decide) (Nat.le_of_ble_eq_true rfl) (Nat.le_of_ble_eq_true rfl) (Nat.le_of_ble_eq_true rfl) (c1 := 2) (s1 := 40) (pc1 := 20) (ws1 := fun q_1 => [(h, .inr (1, [.ref q_0, .ref q_1, .null, .null, .null, .null, .null, .null, .null, .int 0, .null, .null, .int 0])), (q_0, .inl (d, 10, .inl (fun _ => 0))), (q_1, .inl (d, 30, .inl (fun _ => 0)))]) rfl rfl rfl (fun _ => rfl) dX1_init_15 dX1_init_17 (fun q_1 => ?_)
  refine j_aload_n (C _ _ _) dX1_init_20 rfl ?_
  refine j_bipush (C _ _ _) (v := nI 30) dX1_init_21 (by decide) ?_
  refine m_alloc (C _ _ _) hts hown hK hA hin 2 16 30 (by decide) rfl rfl (by decide +kernel) q225 (by decide) (Nat.le_of_ble_eq_true rfl) (Nat.le_of_ble_eq_true rfl) (Nat.le_of_ble_eq_true rfl) (c1 := 3) (s1 := 70) (pc1 := 28) (ws1 := fun q_2 => [(h, .inr (1, [.ref q_0, .ref q_1, .ref q_2, .null, .null, .null, .null, .null, .null, .int 0, .null, .null, .int 0])), (q_0, .inl (d, 10, .inl (fun _ => 0))), (q_1, .inl (d, 30, .inl (fun _ => 0))), (q_2, .inl (d, 30, .inl (fun _ => 0)))]) rfl rfl rfl (fun _ => rfl) dX1_init_23 dX1_init_25 (fun q_2 => ?_)
  refine j_aload_n (C _ _ _) dX1_init_28 rfl ?_
  refine j_bipush (C _ _ _) (v := nI 30) dX1_init_29 (by decide) ?_
  refine m_alloc (C _ _ _) hts hown hK hA hin 3 19 30 (by decide) rfl rfl (by decide +kernel) q226 (by decide) (Nat.le_of_ble_eq_true rfl) (Nat.le_of_ble_eq_true rfl) (Nat.le_of_ble_eq_true rfl) (c1 := 4) (s1 := 100) (pc1 := 36) (ws1 := fun q_3 => [(h, .inr (1, [.ref q_0, .ref q_1, .ref q_2, .ref q_3, .null, .null, .null, .null, .null, .int 0, .null, .null, .int 0])), (q_0, .inl (d, 10, .inl (fun _ => 0))), (q_1, .inl (d, 30, .inl (fun _ => 0))), (q_2, .inl (d, 30, .inl (fun _ => 0))), (q_3, .inl (d, 30, .inl (fun _ => 0)))]) rfl rfl rfl (fun _ => rfl) dX1_init_31 dX1_init_33 (fun q_3 => ?_)
  refine j_aload_n (C _ _ _) dX1_init_36 rfl ?_
  refine j_bipush (C _ _ _) (v := nI 10) dX1_init_37 (by decide) ?_
  refine m_alloc (C _ _ _) hts hown hK hA hin 4 22 10 (by decide) rfl rfl (by decide +kernel) q227 (by decide) (Nat.le_of_ble_eq_true rfl) (Nat.le_of_ble_eq_true rfl) (Nat.le_of_ble_eq_true rfl) (c1 := 5) (s1 := 110) (pc1 := 44) (ws1 := fun q_4 => [(h, .inr (1, [.ref q_0, .ref q_1, .ref q_2, .ref q_3, .ref q_4, .null, .null, .null, .null, .int 0, .null, .null, .int 0])), (q_0, .inl (d, 10, .inl (fun _ => 0))), (q_1, .inl (d, 30, .inl (fun _ => 0))), (q_2, .inl (d, 30, .inl (fun _ => 0))), (q_3, .inl (d, 30, .inl (fun _ => 0))), (q_4, .inl (d, 10, .inl (fun _ => 0)))]) rfl rfl rfl (fun _ => rfl) dX1_init_39 dX1_init_41 (fun q_4 => ?_)
  refine j_aload_n (C _ _ _) dX1_init_44 rfl ?_
  refine j_bipush (C _ _ _) (v := nI 10) dX1_init_45 (by decide) ?_
  refine m_alloc (C _ _ _) hts hown hK hA hin 5 25 10 (by decide) rfl rfl (by decide +kernel) q228 (by decide) (Nat.le_of_ble_eq_true rfl) (Nat.le_of_ble_eq_true rfl) (Nat.le_of_ble_eq_true rfl) (c1 := 6) (s1 := 120) (pc1 := 52) (ws1 := fun q_5 => [(h, .inr (1, [.ref q_0, .ref q_1, .ref q_2, .ref q_3, .ref q_4, .ref q_5, .null, .null, .null, .int 0, .null, .null, .int 0])), (q_0, .inl (d, 10, .inl (fun _ => 0))), (q_1, .inl (d, 30, .inl (fun _ => 0))), (q_2, .inl (d, 30, .inl (fun _ => 0))), (q_3, .inl (d, 30, .inl (fun _ => 0))), (q_4, .inl (d, 10, .inl (fun _ => 0))), (q_5, .inl (d, 10, .inl (fun _ => 0)))]) rfl rfl rfl (fun _ => rfl) dX1_init_47 dX1_init_49 (fun q_5 => ?_)
  refine j_aload_n (C _ _ _) dX1_init_52 rfl ?_
  refine j_bipush (C _ _ _) (v := nI 10) dX1_init_53 (by decide) ?_
  refine m_alloc (C _ _ _) hts hown hK hA hin 6 28 10 (by decide) rfl rfl (by decide +kernel) q229 (by decide) (Nat.le_of_ble_eq_true rfl) (Nat.le_of_ble_eq_true rfl) (Nat.le_of_ble_eq_true rfl) (c1 := 7) (s1 := 130) (pc1 := 60) (ws1 := fun q_6 => [(h, .inr (1, [.ref q_0, .ref q_1, .ref q_2, .ref q_3, .ref q_4, .ref q_5, .ref q_6, .null, .null, .int 0, .null, .null, .int 0])), (q_0, .inl (d, 10, .inl (fun _ => 0))), (q_1, .inl (d, 30, .inl (fun _ => 0))), (q_2, .inl (d, 30, .inl (fun _ => 0))), (q_3, .inl (d, 30, .inl (fun _ => 0))), (q_4, .inl (d, 10, .inl (fun _ => 0))), (q_5, .inl (d, 10, .inl (fun _ => 0))), (q_6, .inl (d, 10, .inl (fun _ => 0)))]) rfl rfl rfl (fun _ => rfl) dX1_init_55 dX1_init_57 (fun q_6 => ?_)
  refine j_aload_n (C _ _ _) dX1_init_60 rfl ?_
  refine j_bipush (C _ _ _) (v := nI 10) dX1_init_61 (by decide) ?_
  refine m_alloc (C _ _ _) hts hown hK hA hin 7 31 10 (by decide) rfl rfl (by decide +kernel) q230 (by decide) (Nat.le_of_ble_eq_true rfl) (Nat.le_of_ble_eq_true rfl) (Nat.le_of_ble_eq_true rfl) (c1 := 8) (s1 := 140) (pc1 := 68) (ws1 := fun q_7 => [(h, .inr (1, [.ref q_0, .ref q_1, .ref q_2, .ref q_3, .ref q_4, .ref q_5, .ref q_6, .ref q_7, .null, .int 0, .null, .null, .int 0])), (q_0, .inl (d, 10, .inl (fun _ => 0))), (q_1, .inl (d, 30, .inl (fun _ => 0))), (q_2, .inl (d, 30, .inl (fun _ => 0))), (q_3, .inl (d, 30, .inl (fun _ => 0))), (q_4, .inl (d, 10, .inl (fun _ => 0))), (q_5, .inl (d, 10, .inl (fun _ => 0))), (q_6, .inl (d, 10, .inl (fun _ => 0))), (q_7, .inl (d, 10, .inl (fun _ => 0)))]) rfl rfl rfl (fun _ => rfl) dX1_init_63 dX1_init_65 (fun q_7 => ?_)
  refine j_aload_n (C _ _ _) dX1_init_68 rfl ?_
  refine j_iconst (C _ _ _) (v := nI 4) dX1_init_69 (by decide) ?_
  refine m_alloc (C _ _ _) hts hown hK hA hin 8 34 4 (by decide) rfl rfl (by decide +kernel) q231 (by decide) (Nat.le_of_ble_eq_true rfl) (Nat.le_of_ble_eq_true rfl) (Nat.le_of_ble_eq_true rfl) (c1 := 9) (s1 := 144) (pc1 := 75) (ws1 := fun q_8 => [(h, .inr (1, [.ref q_0, .ref q_1, .ref q_2, .ref q_3, .ref q_4, .ref q_5, .ref q_6, .ref q_7, .ref q_8, .int 0, .null, .null, .int 0])), (q_0, .inl (d, 10, .inl (fun _ => 0))), (q_1, .inl (d, 30, .inl (fun _ => 0))), (q_2, .inl (d, 30, .inl (fun _ => 0))), (q_3, .inl (d, 30, .inl (fun _ => 0))), (q_4, .inl (d, 10, .inl (fun _ => 0))), (q_5, .inl (d, 10, .inl (fun _ => 0))), (q_6, .inl (d, 10, .inl (fun _ => 0))), (q_7, .inl (d, 10, .inl (fun _ => 0))), (q_8, .inl (d, 4, .inl (fun _ => 0)))]) rfl rfl rfl (fun _ => rfl) dX1_init_70 dX1_init_72 (fun q_8 => ?_)
  refine j_aload_n (C _ _ _) dX1_init_75 rfl ?_
  refine j_bipush (C _ _ _) (v := nI 16) dX1_init_76 (by decide) ?_
  refine m_alloc (C _ _ _) hts hown hK hA hin 10 37 16 (by decide) rfl rfl (by decide +kernel) q233 (by decide) (Nat.le_of_ble_eq_true rfl) (Nat.le_of_ble_eq_true rfl) (Nat.le_of_ble_eq_true rfl) (c1 := 10) (s1 := 160) (pc1 := 83) (ws1 := fun q_10 => [(h, .inr (1, [.ref q_0, .ref q_1, .ref q_2, .ref q_3, .ref q_4, .ref q_5, .ref q_6, .ref q_7, .ref q_8, .int 0, .ref q_10, .null, .int 0])), (q_0, .inl (d, 10, .inl (fun _ => 0))), (q_1, .inl (d, 30, .inl (fun _ => 0))), (q_2, .inl (d, 30, .inl (fun _ => 0))), (q_3, .inl (d, 30, .inl (fun _ => 0))), (q_4, .inl (d, 10, .inl (fun _ => 0))), (q_5, .inl (d, 10, .inl (fun _ => 0))), (q_6, .inl (d, 10, .inl (fun _ => 0))), (q_7, .inl (d, 10, .inl (fun _ => 0))), (q_8, .inl (d, 4, .inl (fun _ => 0))), (q_10, .inl (d, 16, .inl (fun _ => 0)))]) rfl rfl rfl (fun _ => rfl) dX1_init_78 dX1_init_80 (fun q_10 => ?_)
  refine j_aload_n (C _ _ _) dX1_init_83 rfl ?_
  refine j_bipush (C _ _ _) (v := nI 10) dX1_init_84 (by decide) ?_
  refine m_alloc (C _ _ _) hts hown hK hA hin 11 40 10 (by decide) rfl rfl (by decide +kernel) q234 (by decide) (Nat.le_of_ble_eq_true rfl) (Nat.le_of_ble_eq_true rfl) (Nat.le_of_ble_eq_true rfl) (c1 := 11) (s1 := 170) (pc1 := 91) (ws1 := fun q_11 => [(h, .inr (1, [.ref q_0, .ref q_1, .ref q_2, .ref q_3, .ref q_4, .ref q_5, .ref q_6, .ref q_7, .ref q_8, .int 0, .ref q_10, .ref q_11, .int 0])), (q_0, .inl (d, 10, .inl (fun _ => 0))), (q_1, .inl (d, 30, .inl (fun _ => 0))), (q_2, .inl (d, 30, .inl (fun _ => 0))), (q_3, .inl (d, 30, .inl (fun _ => 0))), (q_4, .inl (d, 10, .inl (fun _ => 0))), (q_5, .inl (d, 10, .inl (fun _ => 0))), (q_6, .inl (d, 10, .inl (fun _ => 0))), (q_7, .inl (d, 10, .inl (fun _ => 0))), (q_8, .inl (d, 4, .inl (fun _ => 0))), (q_10, .inl (d, 16, .inl (fun _ => 0))), (q_11, .inl (d, 10, .inl (fun _ => 0)))]) rfl rfl rfl (fun _ => rfl) dX1_init_86 dX1_init_88 (fun q_11 => ?_)
  obtain ⟨qf, eqf⟩ : ∃ z : Nat → Nat, z = fun k => ([q_0, q_1, q_2, q_3, q_4, q_5, q_6, q_7, q_8, 0, q_10, q_11, 0] : List Nat).getD k 0 := ⟨_, rfl⟩
  refine j_weak (P1 := mP (D, d, h, qf, A0, s.heap) (fun _ => 0) (fun _ _ => 0)) (fun H locs hP => by subst eqf; exact hP) ?_
  refine (show ∀ (g : jG) (w : xT), jC g cX1_init 1 → mX g w 0 → xh w = h → (∀ (L : List (Option Value)) (F1 : jF) (A1 : jA), (F1 = upd (fun _ => 0) 12 (-1) ∧ ∀ k, A1 k = fun _ => 0) → J g (mP w F1 A1) 96 L []) → J g (mP w (fun _ => 0) (fun _ _ => 0)) 91 [some (.ref (h))] [] from ?_) (p, l, e, ({ frames := 1, cells := 11, slots := 170, locals := 30 } : Room), s, m, ([.ref h] : List Value).toArray, below, meth, c, _, 11, 170) (D, d, h, qf, A0, s.heap) (C _ _ _) ⟨hown, hts, hK, rfl, hA, Nat.zero_le _, Nat.zero_le _, Nat.le_refl _, Nat.le_refl _⟩ rfl (fun L F1 A1 hp H locs ls hP1 hl1 => ?_)
  · intro g w C X hw ret
    rw [← hw]
    refine j_aload_n C dX1_init_91 rfl ?_
    refine j_iconst C (v := -1) dX1_init_92 (by decide) ?_
    refine m_put_last C X dX1_init_93 rfl ?_
    exact ret _ _ _ ⟨rfl, fun _ => rfl⟩
  · exact W.vret B.exec B.bytes B.returns (fun t ht hW => ⟨⟨(qf, F1, A1), rfl, hp, by rw [ht]; exact hP1.1, va_K.moved hW.alike hK, hP1.2.1⟩, hP1.2.2.F ht⟩) hP1.2.2.2.2 dX1_init_96 B.notSynchronized
end
section
theorem xfs0_ok : ∀ j, j < 27 → defaultValue (tyX0 j) = vp_V xfs0 j := fun j hj => by
  rcases (show j = 0 ∨ j = 1 ∨ j = 2 ∨ j = 3 ∨ j = 4 ∨ j = 5 ∨ j = 6 ∨ j = 7 ∨ j = 8 ∨ j = 9 ∨ j = 10 ∨ j = 11 ∨ j = 12 ∨ j = 13 ∨ j = 14 ∨ j = 15 ∨ j = 16 ∨ j = 17 ∨ j = 18 ∨ j = 19 ∨ j = 20 ∨ j = 21 ∨ j = 22 ∨ j = 23 ∨ j = 24 ∨ j = 25 ∨ j = 26 by omega) with rfl | rfl | rfl | rfl | rfl | rfl | rfl | rfl | rfl | rfl | rfl | rfl | rfl | rfl | rfl | rfl | rfl | rfl | rfl | rfl | rfl | rfl | rfl | rfl | rfl | rfl | rfl <;> rfl
theorem mfs0_ok : ∀ j, j < 13 → defaultValue (tyX1 j) = vp_V mfs0 j := fun j hj => by
  rcases (show j = 0 ∨ j = 1 ∨ j = 2 ∨ j = 3 ∨ j = 4 ∨ j = 5 ∨ j = 6 ∨ j = 7 ∨ j = 8 ∨ j = 9 ∨ j = 10 ∨ j = 11 ∨ j = 12 by omega) with rfl | rfl | rfl | rfl | rfl | rfl | rfl | rfl | rfl | rfl | rfl | rfl | rfl <;> rfl
set_option maxHeartbeats 4000000 in
set_option maxRecDepth 100000 in
theorem whole_start {p : Program} {e : Env} {s : State} {m : MethodId} {below : List Frame} {meth : Method} {c : Code} (l : Launch) {b L : Nat} {xs : Nat → Int32} (hL : L ≤ 320) (C0 : lw_At p s m meth c b L xs) : W p l e room_1 s m #[Value.ref b] below meth c s.heap [] 0 0 (lw_Z below #[Value.ref b] s) (entryFrame m ([Value.ref b] : List Value).toArray 4) := by
  obtain ⟨hx, hb, hr, hml, hown, hts0, hX, hbl, hlocks, hgv⟩ := id C0
  have hts : ∀ w ∈ lw_all, w.before #[Value.ref b] s = true := fun w h => hts0 w (lw_all_tbl h)
  have hA : ∀ x : Nat, s.heap.size ≤ x → (fun x : Nat => s.heap.size ≤ x) x := fun _ h => h
  obtain ⟨c0, iS0, hKn0⟩ := u_known (C := RX0) (T := TX0) (N := 27) (n := 27) hts in_X0 (hts _ q21)
  obtain ⟨c1, iS1, hKn1⟩ := u_known (C := RX1) (T := TX1) (N := 13) (n := 13) hts in_X1 (hts _ q218)
  obtain ⟨D, hKc⟩ : ∃ D : va_G, ∀ (k : Nat) (q : vw_C), vwCl[k]? = some q → u_Kn s q.1 q.2.1 q.2.2 (D.1 k) (D.2 k) := by
    refine ⟨(fun k => if k = 0 then c0 else c1, fun k => if k = 0 then iS0 else iS1), ?_⟩
    intro k q hq
    match k, hq with
    | 0, hq => cases hq; exact hKn0
    | 1, hq => cases hq; exact hKn1
    | k + 2, hq => simp [vwCl] at hq
  obtain ⟨d, kA, comp, hd1, hd2, hd3⟩ := Cond.arrayClass_spec (hts _ q110)
  have hK : va_K D vwCl [(d, .int)] s := by
    refine ⟨hKc, fun k q hq => ?_⟩
    match k, hq with
    | 0, hq => cases hq; exact ⟨fun n z => ⟨fun k h => (by cases h), kA, hd2, comp, hd3⟩, hd1⟩
    | k + 1, hq => simp at hq
  have hS : va_S (fun x : Nat => s.heap.size ≤ x) s.heap s.heap [] := va_S.rf
  have hP : va_P D vwCl [] s.heap := fun k q h => by simp at h
  have hD : va_D (fun x : Nat => s.heap.size ≤ x) [] := ⟨fun i j p q h => by simp at h, fun k q h => by simp at h⟩
  have hl := lv_entry ([.ref b]) (n := 4) (Nat.le_of_ble_eq_true rfl)
  rw [lg_entry_eq]
  generalize (lg_sl ([.ref b]) ++ List.replicate (4 - (lg_sl ([.ref b])).length) Slot.unset).toArray = ls at hl ⊢
  have hl : lv_has ls 4 [(0, .ref b)] := hl
  refine va_new (ci := 0) (fs := xfs0) (C := RX0) (T := TX0) (N := 27) hx hb hts in_X0 tyX0 tyX0_ok hown (hts _ q20) (hts _ q21) (hts _ q18) hK hP hD hS hA rfl xfs0_ok (Nat.le_of_ble_eq_true rfl) (Nat.le_of_ble_eq_true rfl) dL_law_0 (fun h H hP hD hS => ?_)
  have hP : va_P D vwCl [(h, .inr (0, xfs0))] H := hP
  have hD : va_D (fun x : Nat => s.heap.size ≤ x) [(h, .inr (0, xfs0))] := hD
  refine lv_dup hx hb dL_law_3 rfl ?_
  have hFc := va_free (wc := [(h, .inr (0, xfs0))]) hD hS hA [0] rfl
  refine va_callv (va_runI (As := []) (rest := [.ref h]) ⟨hx, hb, hml, hown, hts⟩ (x_init l D d h H.size) (cwI 0 hts (lw_meth q24) rfl rfl rfl (hts _ q18) (hts _ q22) (hts _ q23) rfl (by decide +kernel) ⟨Nat.le_of_ble_eq_true rfl, Nat.le_of_ble_eq_true rfl⟩) ⟨fun a U g mk q => by obtain ⟨q0, q1, qP, qK, qD⟩ := q; exact ⟨q0, q1, qP, va_K.moved (u := U) (U := U.calling g mk a) (Vm.Alike.refl U.vm) qK, qD⟩, fun U hU hW => ⟨rfl, by rw [hU], by rw [hU]; exact hP, va_K.moved hW.alike hK, hD.weaken (fun _ _ _ _ => trivial)⟩⟩ rfl rfl hl.1 rfl (lv_room (Nat.le_of_ble_eq_true rfl)) dL_law_4 ⟨Nat.le_of_ble_eq_true rfl, Nat.le_of_ble_eq_true rfl⟩) hS (fun q _ h => hFc q h) hFc (fun u t H1 locs ht hvm hw1 hB hz1 hk1 hS => ?_)
  obtain ⟨q, F, A⟩ := u
  obtain ⟨hP1, hK1, hD1⟩ := hB
  rw [ht] at hP1
  obtain ⟨hP, hD⟩ := va_join (wr := []) (w1 := xW h q d F A) hP hD [0] [] rfl rfl (by decide) (by decide) hk1 hFc hP1 hD1
  clear hFc
  generalize H1 = H at hP hS ⊢
  have hP : va_P D vwCl (xW h q d F A) H := hP
  have hD : va_D (fun x : Nat => s.heap.size ≤ x) (xW h q d F A) := hD
  refine lv_astore_n (lv' := [(1, .ref h), (0, .ref b)]) hx hb dL_law_7 rfl hl (by decide) rfl (fun ls hl => ?_)
  refine va_new (ci := 1) (fs := mfs0) (C := RX1) (T := TX1) (N := 13) hx hb hts in_X1 tyX1 tyX1_ok hown (hts _ q217) (hts _ q218) (hts _ q19) hK hP hD hS hA rfl mfs0_ok (Nat.le_of_ble_eq_true rfl) (Nat.le_of_ble_eq_true rfl) dL_law_8 (fun h2 H hP hD hS => ?_)
  refine lv_dup hx hb dL_law_11 rfl ?_
  have hPc := hP.sub (ws' := [(h2, .inr (1, mfs0))]) [20] rfl
  have hDc := hD.sub (ws' := [(h2, .inr (1, mfs0))]) [20] (by decide) rfl
  have hFc := va_free (wc := [(h2, .inr (1, mfs0))]) hD hS hA [20] rfl
  refine va_callv (va_runI (As := []) (rest := [.ref h2]) ⟨hx, hb, hml, hown, hts⟩ (m_init l D d h2 H.size) (cwI 0 hts (lw_meth q221) rfl rfl rfl (hts _ q19) (hts _ q219) (hts _ q220) rfl (by decide +kernel) ⟨Nat.le_of_ble_eq_true rfl, Nat.le_of_ble_eq_true rfl⟩) ⟨fun a U g mk q => by obtain ⟨q0, q1, qP, qK, qD⟩ := q; exact ⟨q0, q1, qP, va_K.moved (u := U) (U := U.calling g mk a) (Vm.Alike.refl U.vm) qK, qD⟩, fun U hU hW => ⟨rfl, by rw [hU], by rw [hU]; exact hPc, va_K.moved hW.alike hK, hDc.weaken (fun _ _ _ _ => trivial)⟩⟩ rfl rfl hl.1 rfl (lv_room (Nat.le_of_ble_eq_true rfl)) dL_law_12 ⟨Nat.le_of_ble_eq_true rfl, Nat.le_of_ble_eq_true rfl⟩) hS (fun q _ h => hFc q h) hFc (fun u t H1 locs ht hvm hw2 hB hz1 hk1 hS => ?_)
  obtain ⟨q2, G, B⟩ := u
  obtain ⟨hP1, hK1, hD1⟩ := hB
  rw [ht] at hP1
  obtain ⟨hP, hD⟩ := va_join (wr := xW h q d F A) (w1 := mW h2 q2 d G B) hP hD [20] [0, 1, 2, 3, 4, 5, 6, 7, 8, 9, 10, 11, 12, 13, 14, 15, 16, 17, 18, 19] rfl rfl (by decide) (by decide) hk1 hFc hP1 hD1
  generalize H1 = H at hP hS ⊢
  refine lv_astore_n (lv' := [(2, .ref h2), (1, .ref h), (0, .ref b)]) hx hb dL_law_15 rfl hl (by decide) rfl (fun ls hl => ?_)
  refine lv_iconst (v := nI 0) hx hb dL_law_16 (by decide) ?_
  refine lv_istore_n (lv' := [(3, .int (nI 0)), (2, .ref h2), (1, .ref h), (0, .ref b)]) hx hb dL_law_17 rfl hl (by decide) rfl (fun ls hl => ?_)
  refine W.widen (k := 600000) (n := 7290000) (by decide) (by decide) ?_
  have hl4 : lv_has ls 4 [(0, .ref b), (1, .ref h), (2, .ref h2), (3, .int (nI 0))] := lv_sub hl [3, 2, 1, 0] rfl
  exact l_loop (g := (p, l, e, room_1, s, m, #[Value.ref b], below, meth, c, lw_Z below #[Value.ref b] s, 600000, 7290000)) (w := (D, d, h, q, h2, q2)) (H0 := s.heap) (b := b) (N := L) (xs := xs) ⟨hx, hb, hml⟩ ⟨hown, hts, hK, rfl, hX, hbl, by decide, by decide, Nat.le_refl _, Nat.le_refl _⟩ hL (fun F A G B L H locs ls hP hl => va_forget (fun q hq => hP.2.2.2.2 q hq) (lw_ret hx hb hr hlocks dL_law_446)) (L + 1) 0 F A G B (by omega) (Nat.zero_le _) (Rel_init hw1.1 hw1.2.1 hw1.2.2 hw2.1 hw2.2) H locs ls ⟨hP, hD, hS⟩ hl4
end
section
set_option maxHeartbeats 4000000 in
theorem lw_walk (l : Launch) (b : Addr) (xs : List Int32) : MetFree l x (headSpec (Jvm.Cond.code x code maxLocals ret :: tables_1) room_1) (lw_P b xs) (fun _ _ _ _ _ => True) lw_Q := by
  refine MetFree.of_bodyS (code := code) (maxLocals := maxLocals) (ret := ret) (by decide) ?_ ?_
  · intro args s m h hn
    obtain ⟨meth, c, h1, h2, h3, h4, h5, h6, -, -⟩ := Cond.code_spec hn (atoms_spec (ws := Jvm.Cond.code x code maxLocals ret :: tables_1) h _ List.mem_cons_self)
    exact ⟨meth, c, h1, h2, h3, h4, h5, h6⟩
  · intro p e s m args below meth c s₁ B hml0 hP _
    obtain ⟨rfl, hx, hbd, hgv⟩ := hP
    obtain ⟨scr, harrAt, hlist, hof, hsmall⟩ := hx
    obtain ⟨hcb, hkn, -, -⟩ := State.arrayAt?_spec harrAt
    have hown : s.vm.findClass R_law = some m.cls := findClass_of_methodNamed B.named
    have hts0 : ∀ c ∈ (Jvm.Cond.code x code maxLocals ret :: tables_1), c.before #[Value.ref b] s = true := atoms_spec (ws := Jvm.Cond.code x code maxLocals ret :: tables_1) B.pre
    have hts : ∀ w ∈ lw_tbl, w.before #[Value.ref b] s = true := k2_hts_sels lw_privs (fun w hw => hts0 w (List.mem_cons_of_mem _ hw)) lw_privs_ok
    have hml : c.maxLocals = 4 := B.maxLocals_eq (hts0 _ List.mem_cons_self)
    have X₀ : Stand p l e room_1 s m #[Value.ref b] below meth c s₁ [] 0 0 := Stand.of_body B
    have hh0 : s₁.heap = s.heap := by rw [B.state]; rfl
    have hsz : scr.slots.size = xs.length := by rw [← Array.length_toList, hlist, List.length_map]
    have hval : ∀ j : Nat, j < xs.length → scr.slots[j]? = some (.int (xs.getD j 0)) := fun j hj => by
      rw [← Array.getElem?_toList, hlist]
      simp [hj]
    have hbl : b < s.heap.size := (Array.getElem?_eq_some_iff.mp hcb).1
    have hX : va_X b xs.length (fun j => xs.getD j 0) s s.heap := ⟨scr, hcb, hof, hkn, hsz, hval⟩
    have K : W p l e room_1 s m #[Value.ref b] below meth c s₁.heap [] 0 0 (lw_Z below #[Value.ref b] s) (entryFrame m ([Value.ref b] : List Value).toArray 4) := by
      rw [hh0]
      exact whole_start l hbd ⟨B.exec, B.bytes, B.returns, hml, hown, hts, hX, hbl, B.notSynchronized, hgv⟩
    obtain ⟨t, a1, o, b1, b2, b3⟩ := K s₁ rfl X₀
    exact ⟨t, o, a1, b1, b2, b3⟩
theorem lw_pre_spec {args : Array Value} {s : State} (h : (Jvm.Cond.and given_1 narrow_1).before args s = true) (hr : rest_1_c.before args s = true) : ∃ (b : Addr) (xs : List Int32), lw_P b xs args s := by
  have hs := flat_of_before _ h
  have hq := flat_of_before _ hr
  have hc : (Cond.count 1).before args s = true := hs _ (by decide +kernel)
  have harr : (Cond.arrayOf (.arg 0) .int).before args s = true := hs _ (by decide +kernel)
  have hle : (Cond.le (.length (.arg 0)) (.int 320)).before args s = true := hs _ (by decide +kernel)
  have hlen : (Cond.isInt (.length (.arg 0))).before args s = true := hq _ (by decide +kernel)
  have hall : (Cond.all (.arg 0) (.isInt (.elem (.arg 0) (.index 0)))).before args s = true := hq _ (by decide +kernel)
  obtain ⟨b, xs, hb, hx⟩ := State.ints_of_pre rfl harr hlen hall
  have hsm : xs.length < 2 ^ 31 := hx.choose_spec.2.2.2
  have hev : (Term.length (.arg 0)).eval args s none [] s = some (.int xs.length.toInt32) := hx.length_eval hb
  have hv := Cond.le_ints hev (show (Term.int 320).eval args s none [] s = some (.int 320) from rfl)
  have hd : xs.length.toInt32 ≤ 320 := by
    simpa [Cond.before, Cond.holds, hv] using hle
  have hN : xs.length ≤ 320 := (Int32.ofNat_le_ofNat hsm (by decide)).mp (show Int32.ofNat xs.length ≤ Int32.ofNat 320 from hd)
  exact ⟨b, xs, Cond.one_arg hc (show args[0]? = some (.ref b) from hb), hx, hN, h⟩
theorem lw_comes (l : Launch) : Comes l x (Jvm.Cond.code x code maxLocals ret :: tables_1) room_1 (fun tb e args s => Calls_1 tb e args s ∧ rest_1 tb e args s ∧ Pre_1 tb e args s)
    (fun _ _ args s o t => lw_Q args s o t) := by
  intro p e ha hc hk s m args below hf hfit hheap happ hpre
  obtain ⟨b, xs, hP⟩ := lw_pre_spec hpre.2.2 hpre.2.1
  obtain ⟨k, o, h1, h2, h3, hQ⟩ := lw_walk l b xs p e ha hc hk s m args below hf ((Spec.applies_iff_loose hf).mp happ).1 hP trivial
  exact ⟨k, o, h1, h2, h3, hQ⟩
theorem lw_frame {s t : State} {o : Outcome} {args : Array Value} (h : Framed s o t [] 600000 7290000) :
    Framed s o t (fieldLocs frame_1_writes args s ++ arrayLocs frame_1_arrays args s ++ staticLocs frame_1_statics s) 600000 7290000 := h
theorem lw_limb (L : Cond) (hL : ∀ (args : Array Value) (s t : State), L.after args s (.returned (some (.int 1))) t = true) :
    ArmFor flags0 classFile x code maxLocals ret World_1 tables_1 room_1 Calls_1 rest_1 Pre_1
      (fun tb e a s o t => postC L tb e a s o t ∧ Framed s o t (fieldLocs frame_1_writes a s ++ arrayLocs frame_1_arrays a s ++ staticLocs frame_1_statics s) 600000 7290000) := by
  intro l _ _ _ p e ha hc hk s m args below hf hfit hheap happ hpre
  obtain ⟨k, o, h1, h2, h3, rfl, hF⟩ := lw_comes l p e ha hc hk s m args below hf hfit hheap happ hpre
  exact ⟨k, _, h1, h2, h3, hL args s _, lw_frame hF⟩
theorem i_vc : Claimed_1_1 ∧ Claimed_1_2 := ⟨lw_limb limb_1_1 (fun args s t => by simp [limb_1_1, Cond.after, Cond.holds, Cond.value]), lw_limb limb_1_2 (fun args s t => Cond.after_iff.mpr (by
  first | (rw [show limb_1_2 = Cond.eq .result (.int 1) from rfl, Cond.eq_ints (x := 1) (y := 1) rfl rfl]; simp; done) | (simp [limb_1_2, Cond.value, Term.eval]; done)))⟩
end
