section
-- ===== PART A: goes FIRST, ahead of the names: the tables' words, and 'selects' of the private methods out of them =====
/-- a private method of a class that the tables say can be made, by its rows of tables_1 -/
def lw_okq (q : MethodName × Nat) : Prop := (q.1.cls ≠ "java/lang/invoke/MethodHandle" ∧ q.1.cls ≠ "java/lang/invoke/VarHandle") ∧ Cond.instantiable q.1.cls q.2 ∈ tables_1 ∧ Cond.privateMethod q.1 ∈ tables_1 ∧ Cond.instanceMethod q.1 ∈ tables_1
set_option maxRecDepth 100000
theorem lw_t1 {w : Cond} (h : w ∈ tables_1_1) : w ∈ tables_1 := List.mem_append_left _ h
theorem lw_t2 {w : Cond} (h : w ∈ tables_1_2) : w ∈ tables_1 := List.mem_append_right _ h
theorem lw_p0 : lw_okq (⟨"AlignmentDesk", "isFrame", "(I)Z"⟩, 8) := ⟨⟨by decide +kernel, by decide +kernel⟩, lw_t1 (List.mem_of_getElem? (i := 4) rfl), lw_t1 (List.mem_of_getElem? (i := 51) rfl), lw_t1 (List.mem_of_getElem? (i := 52) rfl)⟩
theorem lw_p1 : lw_okq (⟨"AlignmentDesk", "sumAll", "()I"⟩, 8) := ⟨⟨by decide +kernel, by decide +kernel⟩, lw_t1 (List.mem_of_getElem? (i := 4) rfl), lw_t1 (List.mem_of_getElem? (i := 78) rfl), lw_t1 (List.mem_of_getElem? (i := 79) rfl)⟩
theorem lw_p2 : lw_okq (⟨"AlignmentDesk", "carryOn", "()V"⟩, 8) := ⟨⟨by decide +kernel, by decide +kernel⟩, lw_t1 (List.mem_of_getElem? (i := 4) rfl), lw_t1 (List.mem_of_getElem? (i := 82) rfl), lw_t1 (List.mem_of_getElem? (i := 83) rfl)⟩
theorem lw_p3 : lw_okq (⟨"AlignmentDesk", "leads", "(II)Z"⟩, 8) := ⟨⟨by decide +kernel, by decide +kernel⟩, lw_t1 (List.mem_of_getElem? (i := 4) rfl), lw_t1 (List.mem_of_getElem? (i := 86) rfl), lw_t1 (List.mem_of_getElem? (i := 87) rfl)⟩
theorem lw_p4 : lw_okq (⟨"AlignmentDesk", "markAt", "(I)I"⟩, 8) := ⟨⟨by decide +kernel, by decide +kernel⟩, lw_t1 (List.mem_of_getElem? (i := 4) rfl), lw_t1 (List.mem_of_getElem? (i := 90) rfl), lw_t1 (List.mem_of_getElem? (i := 91) rfl)⟩
theorem lw_p5 : lw_okq (⟨"AlignmentDesk", "weightOf", "(II)I"⟩, 8) := ⟨⟨by decide +kernel, by decide +kernel⟩, lw_t1 (List.mem_of_getElem? (i := 4) rfl), lw_t1 (List.mem_of_getElem? (i := 94) rfl), lw_t1 (List.mem_of_getElem? (i := 95) rfl)⟩
theorem lw_p6 : lw_okq (⟨"AlignmentDesk", "endsAt", "(I)Z"⟩, 8) := ⟨⟨by decide +kernel, by decide +kernel⟩, lw_t1 (List.mem_of_getElem? (i := 4) rfl), lw_t1 (List.mem_of_getElem? (i := 98) rfl), lw_t1 (List.mem_of_getElem? (i := 99) rfl)⟩
theorem lw_p7 : lw_okq (⟨"AlignmentDesk", "greatest", "()I"⟩, 8) := ⟨⟨by decide +kernel, by decide +kernel⟩, lw_t1 (List.mem_of_getElem? (i := 4) rfl), lw_t1 (List.mem_of_getElem? (i := 110) rfl), lw_t1 (List.mem_of_getElem? (i := 111) rfl)⟩
theorem lw_p8 : lw_okq (⟨"AlignmentDesk", "carryBack", "()V"⟩, 8) := ⟨⟨by decide +kernel, by decide +kernel⟩, lw_t1 (List.mem_of_getElem? (i := 4) rfl), lw_t1 (List.mem_of_getElem? (i := 114) rfl), lw_t1 (List.mem_of_getElem? (i := 115) rfl)⟩
theorem lw_p9 : lw_okq (⟨"AlignmentDesk", "bestFrom", "(I)I"⟩, 8) := ⟨⟨by decide +kernel, by decide +kernel⟩, lw_t1 (List.mem_of_getElem? (i := 4) rfl), lw_t1 (List.mem_of_getElem? (i := 118) rfl), lw_t1 (List.mem_of_getElem? (i := 119) rfl)⟩
theorem lw_p10 : lw_okq (⟨"AlignmentDesk", "frameSum", "(I)I"⟩, 8) := ⟨⟨by decide +kernel, by decide +kernel⟩, lw_t1 (List.mem_of_getElem? (i := 4) rfl), lw_t1 (List.mem_of_getElem? (i := 134) rfl), lw_t1 (List.mem_of_getElem? (i := 135) rfl)⟩
theorem lw_p11 : lw_okq (⟨"AlignmentDeskModel", "is", "(I)Z"⟩, 6) := ⟨⟨by decide +kernel, by decide +kernel⟩, lw_t1 (List.mem_of_getElem? (i := 150) rfl), lw_t1 (List.mem_of_getElem? (i := 187) rfl), lw_t1 (List.mem_of_getElem? (i := 188) rfl)⟩
theorem lw_p12 : lw_okq (⟨"AlignmentDeskModel", "mark", "(I)Z"⟩, 6) := ⟨⟨by decide +kernel, by decide +kernel⟩, lw_t1 (List.mem_of_getElem? (i := 150) rfl), lw_t1 (List.mem_of_getElem? (i := 191) rfl), lw_t1 (List.mem_of_getElem? (i := 192) rfl)⟩
theorem lw_p13 : lw_okq (⟨"AlignmentDeskModel", "all", "()I"⟩, 6) := ⟨⟨by decide +kernel, by decide +kernel⟩, lw_t1 (List.mem_of_getElem? (i := 150) rfl), lw_t1 (List.mem_of_getElem? (i := 215) rfl), lw_t1 (List.mem_of_getElem? (i := 216) rfl)⟩
theorem lw_p14 : lw_okq (⟨"AlignmentDeskModel", "spell", "(I)I"⟩, 6) := ⟨⟨by decide +kernel, by decide +kernel⟩, lw_t1 (List.mem_of_getElem? (i := 150) rfl), lw_t1 (List.mem_of_getElem? (i := 219) rfl), lw_t1 (List.mem_of_getElem? (i := 220) rfl)⟩
theorem lw_p15 : lw_okq (⟨"AlignmentDeskModel", "fits", "(Z)Z"⟩, 6) := ⟨⟨by decide +kernel, by decide +kernel⟩, lw_t1 (List.mem_of_getElem? (i := 150) rfl), lw_t1 (List.mem_of_getElem? (i := 223) rfl), lw_t1 (List.mem_of_getElem? (i := 224) rfl)⟩
def lw_privs_1 : List (MethodName × Nat) := [(⟨"AlignmentDesk", "isFrame", "(I)Z"⟩, 8), (⟨"AlignmentDesk", "sumAll", "()I"⟩, 8), (⟨"AlignmentDesk", "carryOn", "()V"⟩, 8), (⟨"AlignmentDesk", "leads", "(II)Z"⟩, 8), (⟨"AlignmentDesk", "markAt", "(I)I"⟩, 8), (⟨"AlignmentDesk", "weightOf", "(II)I"⟩, 8), (⟨"AlignmentDesk", "endsAt", "(I)Z"⟩, 8), (⟨"AlignmentDesk", "greatest", "()I"⟩, 8), (⟨"AlignmentDesk", "carryBack", "()V"⟩, 8), (⟨"AlignmentDesk", "bestFrom", "(I)I"⟩, 8), (⟨"AlignmentDesk", "frameSum", "(I)I"⟩, 8), (⟨"AlignmentDeskModel", "is", "(I)Z"⟩, 6), (⟨"AlignmentDeskModel", "mark", "(I)Z"⟩, 6), (⟨"AlignmentDeskModel", "all", "()I"⟩, 6), (⟨"AlignmentDeskModel", "spell", "(I)I"⟩, 6), (⟨"AlignmentDeskModel", "fits", "(Z)Z"⟩, 6)]
theorem lw_r1 : ∀ q ∈ lw_privs_1, lw_okq q := List.forall_mem_cons.mpr ⟨lw_p0, List.forall_mem_cons.mpr ⟨lw_p1, List.forall_mem_cons.mpr ⟨lw_p2, List.forall_mem_cons.mpr ⟨lw_p3, List.forall_mem_cons.mpr ⟨lw_p4, List.forall_mem_cons.mpr ⟨lw_p5, List.forall_mem_cons.mpr ⟨lw_p6, List.forall_mem_cons.mpr ⟨lw_p7, List.forall_mem_cons.mpr ⟨lw_p8, List.forall_mem_cons.mpr ⟨lw_p9, List.forall_mem_cons.mpr ⟨lw_p10, List.forall_mem_cons.mpr ⟨lw_p11, List.forall_mem_cons.mpr ⟨lw_p12, List.forall_mem_cons.mpr ⟨lw_p13, List.forall_mem_cons.mpr ⟨lw_p14, List.forall_mem_cons.mpr ⟨lw_p15, fun _ h => absurd h List.not_mem_nil⟩⟩⟩⟩⟩⟩⟩⟩⟩⟩⟩⟩⟩⟩⟩⟩
theorem lw_p16 : lw_okq (⟨"AlignmentDeskModel", "reads", "()I"⟩, 6) := ⟨⟨by decide +kernel, by decide +kernel⟩, lw_t1 (List.mem_of_getElem? (i := 150) rfl), lw_t1 (List.mem_of_getElem? (i := 227) rfl), lw_t1 (List.mem_of_getElem? (i := 228) rfl)⟩
theorem lw_p17 : lw_okq (⟨"AlignmentDeskModel", "first", "()I"⟩, 6) := ⟨⟨by decide +kernel, by decide +kernel⟩, lw_t1 (List.mem_of_getElem? (i := 150) rfl), lw_t1 (List.mem_of_getElem? (i := 239) rfl), lw_t2 (List.mem_of_getElem? (i := 0) rfl)⟩
def lw_privs_2 : List (MethodName × Nat) := [(⟨"AlignmentDeskModel", "reads", "()I"⟩, 6), (⟨"AlignmentDeskModel", "first", "()I"⟩, 6)]
theorem lw_r2 : ∀ q ∈ lw_privs_2, lw_okq q := List.forall_mem_cons.mpr ⟨lw_p16, List.forall_mem_cons.mpr ⟨lw_p17, fun _ h => absurd h List.not_mem_nil⟩⟩
def lw_privs : List (MethodName × Nat) := lw_privs_1 ++ (lw_privs_2)
def lw_tbl : List Cond := k2_sels lw_privs ++ tables_1
theorem lw_privs_ok : ∀ q ∈ lw_privs, lw_okq q := by
  show ∀ q ∈ lw_privs_1 ++ (lw_privs_2), lw_okq q
  exact List.forall_mem_append.mpr ⟨lw_r1, lw_r2⟩
-- ===== ONE list of words for every method: the tables' words that hold all through a run =====
def lw_all : List Cond := lw_tbl.filter goodWord
/-- a word of the tables by its place: claim/WORDS.tsv -/
theorem lw_w {w : Cond} (i : Nat) (h : lw_tbl[i]? = some w) (g : goodWord w = true) : w ∈ lw_all := List.mem_filter.mpr ⟨List.mem_of_getElem? h, g⟩
theorem lw_all_tbl {w : Cond} (h : w ∈ lw_all) : w ∈ lw_tbl := (List.mem_filter.mp h).1
theorem lw_self : GoodIn lw_all lw_all := fun w h => ⟨h, good_of_word (List.mem_filter.mp h).2⟩
/-- a class's field words, by their places -/
theorem lw_in (ws : List Cond) (ps : List Nat) (hp : ws = ps.filterMap (fun i => lw_tbl[i]?)) (hg : ws.all goodWord = true) : ∀ w ∈ ws, w ∈ lw_all := by
  intro w h
  have h1 := List.all_eq_true.mp hg w h
  rw [hp] at h
  obtain ⟨i, -, hi⟩ := List.mem_filterMap.mp h
  exact lw_w i hi h1
/-- the words of a contract for the method y with code b, L locals, answer r -/
abbrev ws_ (y : MethodName) (b : ByteArray) (L : Nat) (r : Option FieldType) : List Cond := Cond.code y b L r :: lw_all
theorem lw_meth {y : MethodName} {b : ByteArray} {L : Nat} {r : Option FieldType} (h : Cond.code y b L r ∈ lw_all) : GoodIn lw_all (ws_ y b L r) := by
  intro w hw
  rcases List.mem_cons.mp hw with e | e
  · rw [e]
    exact lw_self _ h
  · exact lw_self _ e
theorem lw_app {a c : List Cond} (ha : ∀ w ∈ a, w ∈ lw_all) (hc : GoodIn lw_all c) : GoodIn lw_all (a ++ c) := by
  intro w hw
  rcases List.mem_append.mp hw with e | e
  · exact lw_self w (ha w e)
  · exact hc w e
/-- what a call through an object asks: cwV n hts (lw_V ..) -/
theorem lw_V {own : String} {idx : Nat} {C : String} {y : MethodName} {b : ByteArray} {L : Nat} {r : Option FieldType} (h1 : Cond.methodLink own idx y ∈ lw_all) (h2 : Cond.instanceMethod y ∈ lw_all) (h3 : Cond.selects C y y ∈ lw_all) (h4 : Cond.initialized C ∈ lw_all) (h5 : Cond.code y b L r ∈ lw_all) : GoodIn lw_all (wsV own idx C y (ws_ y b L r)) := by
  refine lw_app ?_ (lw_meth h5)
  intro w hw
  simp only [List.mem_cons, List.not_mem_nil, or_false] at hw
  rcases hw with e | e | e | e
  · rw [e]; exact h1
  · rw [e]; exact h2
  · rw [e]; exact h3
  · rw [e]; exact h4
/-- what a static call asks: va_cwS n hts (lw_S ..) -/
theorem lw_S {own : String} {idx : Nat} {y : MethodName} {b : ByteArray} {L : Nat} {r : Option FieldType} (h1 : Cond.methodLink own idx y ∈ lw_all) (h2 : Cond.static y ∈ lw_all) (h3 : Cond.initialized y.cls ∈ lw_all) (h4 : Cond.code y b L r ∈ lw_all) : GoodIn lw_all (va_wsS own idx y (ws_ y b L r)) := by
  refine lw_app ?_ (lw_meth h4)
  intro w hw
  simp only [List.mem_cons, List.not_mem_nil, or_false] at hw
  rcases hw with e | e | e
  · rw [e]; exact h1
  · rw [e]; exact h2
  · rw [e]; exact h3
/-- the words of a contract for a method WITH HANDLERS (hh: its table) -/
abbrev wsW_ (y : MethodName) (b : ByteArray) (L : Nat) (r : Option FieldType) (hh : List (Nat × Nat × Nat × Nat)) : List Cond := Cond.codeWith y b L r hh :: lw_all
theorem lw_methW {y : MethodName} {b : ByteArray} {L : Nat} {r : Option FieldType} {hh : List (Nat × Nat × Nat × Nat)} (h : Cond.codeWith y b L r hh ∈ lw_all) : GoodIn lw_all (wsW_ y b L r hh) := by
  intro w hw
  rcases List.mem_cons.mp hw with e | e
  · rw [e]
    exact lw_self _ h
  · exact lw_self _ e
/-- any list of words by their places (lw_in), good -/
theorem lw_good {ws : List Cond} (h : ∀ w ∈ ws, w ∈ lw_all) : GoodIn lw_all ws := fun w hw => lw_self w (h w hw)
/-- what a call of a method with handlers asks: vx_cwVW n hts (lw_VW ..), vx_cwSW n hts (lw_SW ..) -/
theorem lw_VW {own : String} {idx : Nat} {C : String} {y : MethodName} {b : ByteArray} {L : Nat} {r : Option FieldType} {hh : List (Nat × Nat × Nat × Nat)} (h1 : Cond.methodLink own idx y ∈ lw_all) (h2 : Cond.instanceMethod y ∈ lw_all) (h3 : Cond.selects C y y ∈ lw_all) (h4 : Cond.initialized C ∈ lw_all) (h5 : Cond.codeWith y b L r hh ∈ lw_all) : GoodIn lw_all (wsV own idx C y (wsW_ y b L r hh)) := by
  refine lw_app ?_ (lw_methW h5)
  intro w hw
  simp only [List.mem_cons, List.not_mem_nil, or_false] at hw
  rcases hw with e | e | e | e
  · rw [e]; exact h1
  · rw [e]; exact h2
  · rw [e]; exact h3
  · rw [e]; exact h4
theorem lw_SW {own : String} {idx : Nat} {y : MethodName} {b : ByteArray} {L : Nat} {r : Option FieldType} {hh : List (Nat × Nat × Nat × Nat)} (h1 : Cond.methodLink own idx y ∈ lw_all) (h2 : Cond.static y ∈ lw_all) (h3 : Cond.initialized y.cls ∈ lw_all) (h4 : Cond.codeWith y b L r hh ∈ lw_all) : GoodIn lw_all (va_wsS own idx y (wsW_ y b L r hh)) := by
  refine lw_app ?_ (lw_methW h4)
  intro w hw
  simp only [List.mem_cons, List.not_mem_nil, or_false] at hw
  rcases hw with e | e | e
  · rw [e]; exact h1
  · rw [e]; exact h2
  · rw [e]; exact h3
/-- a word by its place in its run of the tables -/
theorem lw_at {r : List Cond} (hr : ∀ w ∈ r, w ∈ lw_tbl) {w : Cond} (i : Nat) (h : r[i]? = some w) : w ∈ lw_tbl := hr w (List.mem_of_getElem? h)
theorem lw_g {w : Cond} (h : w ∈ lw_tbl) (g : goodWord w = true) : w ∈ lw_all := List.mem_filter.mpr ⟨h, g⟩
theorem lw_ms : ∀ w ∈ k2_sels lw_privs, w ∈ lw_tbl := fun w h => show w ∈ k2_sels lw_privs ++ tables_1 from List.mem_append_left _ h
theorem lw_m1 : ∀ w ∈ tables_1_1, w ∈ lw_tbl := fun w h => show w ∈ k2_sels lw_privs ++ tables_1 from List.mem_append_right (k2_sels lw_privs) (show w ∈ tables_1 from List.mem_append_left _ h)
theorem lw_m2 : ∀ w ∈ tables_1_2, w ∈ lw_tbl := fun w h => show w ∈ k2_sels lw_privs ++ tables_1 from List.mem_append_right (k2_sels lw_privs) (show w ∈ tables_1 from List.mem_append_right _ h)
theorem qs0 : (Cond.selects "AlignmentDesk" ⟨"AlignmentDesk", "isFrame", "(I)Z"⟩ ⟨"AlignmentDesk", "isFrame", "(I)Z"⟩) ∈ lw_all := lw_g (lw_at lw_ms 0 rfl) rfl
theorem qs1 : (Cond.selects "AlignmentDesk" ⟨"AlignmentDesk", "sumAll", "()I"⟩ ⟨"AlignmentDesk", "sumAll", "()I"⟩) ∈ lw_all := lw_g (lw_at lw_ms 1 rfl) rfl
theorem qs2 : (Cond.selects "AlignmentDesk" ⟨"AlignmentDesk", "carryOn", "()V"⟩ ⟨"AlignmentDesk", "carryOn", "()V"⟩) ∈ lw_all := lw_g (lw_at lw_ms 2 rfl) rfl
theorem qs3 : (Cond.selects "AlignmentDesk" ⟨"AlignmentDesk", "leads", "(II)Z"⟩ ⟨"AlignmentDesk", "leads", "(II)Z"⟩) ∈ lw_all := lw_g (lw_at lw_ms 3 rfl) rfl
theorem qs4 : (Cond.selects "AlignmentDesk" ⟨"AlignmentDesk", "markAt", "(I)I"⟩ ⟨"AlignmentDesk", "markAt", "(I)I"⟩) ∈ lw_all := lw_g (lw_at lw_ms 4 rfl) rfl
theorem qs5 : (Cond.selects "AlignmentDesk" ⟨"AlignmentDesk", "weightOf", "(II)I"⟩ ⟨"AlignmentDesk", "weightOf", "(II)I"⟩) ∈ lw_all := lw_g (lw_at lw_ms 5 rfl) rfl
theorem qs6 : (Cond.selects "AlignmentDesk" ⟨"AlignmentDesk", "endsAt", "(I)Z"⟩ ⟨"AlignmentDesk", "endsAt", "(I)Z"⟩) ∈ lw_all := lw_g (lw_at lw_ms 6 rfl) rfl
theorem qs7 : (Cond.selects "AlignmentDesk" ⟨"AlignmentDesk", "greatest", "()I"⟩ ⟨"AlignmentDesk", "greatest", "()I"⟩) ∈ lw_all := lw_g (lw_at lw_ms 7 rfl) rfl
theorem qs8 : (Cond.selects "AlignmentDesk" ⟨"AlignmentDesk", "carryBack", "()V"⟩ ⟨"AlignmentDesk", "carryBack", "()V"⟩) ∈ lw_all := lw_g (lw_at lw_ms 8 rfl) rfl
theorem qs9 : (Cond.selects "AlignmentDesk" ⟨"AlignmentDesk", "bestFrom", "(I)I"⟩ ⟨"AlignmentDesk", "bestFrom", "(I)I"⟩) ∈ lw_all := lw_g (lw_at lw_ms 9 rfl) rfl
theorem qs10 : (Cond.selects "AlignmentDesk" ⟨"AlignmentDesk", "frameSum", "(I)I"⟩ ⟨"AlignmentDesk", "frameSum", "(I)I"⟩) ∈ lw_all := lw_g (lw_at lw_ms 10 rfl) rfl
theorem qs11 : (Cond.selects "AlignmentDeskModel" ⟨"AlignmentDeskModel", "is", "(I)Z"⟩ ⟨"AlignmentDeskModel", "is", "(I)Z"⟩) ∈ lw_all := lw_g (lw_at lw_ms 11 rfl) rfl
theorem qs12 : (Cond.selects "AlignmentDeskModel" ⟨"AlignmentDeskModel", "mark", "(I)Z"⟩ ⟨"AlignmentDeskModel", "mark", "(I)Z"⟩) ∈ lw_all := lw_g (lw_at lw_ms 12 rfl) rfl
theorem qs13 : (Cond.selects "AlignmentDeskModel" ⟨"AlignmentDeskModel", "all", "()I"⟩ ⟨"AlignmentDeskModel", "all", "()I"⟩) ∈ lw_all := lw_g (lw_at lw_ms 13 rfl) rfl
theorem qs14 : (Cond.selects "AlignmentDeskModel" ⟨"AlignmentDeskModel", "spell", "(I)I"⟩ ⟨"AlignmentDeskModel", "spell", "(I)I"⟩) ∈ lw_all := lw_g (lw_at lw_ms 14 rfl) rfl
theorem qs15 : (Cond.selects "AlignmentDeskModel" ⟨"AlignmentDeskModel", "fits", "(Z)Z"⟩ ⟨"AlignmentDeskModel", "fits", "(Z)Z"⟩) ∈ lw_all := lw_g (lw_at lw_ms 15 rfl) rfl
theorem qs16 : (Cond.selects "AlignmentDeskModel" ⟨"AlignmentDeskModel", "reads", "()I"⟩ ⟨"AlignmentDeskModel", "reads", "()I"⟩) ∈ lw_all := lw_g (lw_at lw_ms 16 rfl) rfl
theorem qs17 : (Cond.selects "AlignmentDeskModel" ⟨"AlignmentDeskModel", "first", "()I"⟩ ⟨"AlignmentDeskModel", "first", "()I"⟩) ∈ lw_all := lw_g (lw_at lw_ms 17 rfl) rfl
end
section
/-! java/lang/Object -/
set_option maxRecDepth 100000
def RJ0 : String := "java/lang/Object"
abbrev cJ0_init : ByteArray := object_method_1_code
def yJ0_init : MethodName := ⟨RJ0, "<init>", "()V"⟩
theorem dJ0_init_0 : decode cJ0_init 0 = .ok (.return_, 1) := by decide +kernel
theorem q27 : (Jvm.Cond.instanceMethod ({ cls := "java/lang/Object", name := "<init>", desc := "()V" } : Jvm.MethodName)) ∈ lw_all := lw_g (lw_at lw_m1 9 rfl) rfl
theorem q28 : (Jvm.Cond.code ({ cls := "java/lang/Object", name := "<init>", desc := "()V" } : Jvm.MethodName) object_method_1_code (1 : Nat) (Option.none : Option Jvm.ClassFile.FieldType)) ∈ lw_all := lw_g (lw_at lw_m1 10 rfl) rfl
/-! AlignmentDesk -/
set_option maxRecDepth 100000
def RX0 : String := "AlignmentDesk"
def TX0 : u_T := fun k => match k with
  | 0 => ("AlignmentDesk", "count", "I", false)
  | 1 => ("AlignmentDesk", "weights", "[B", true)
  | 2 => ("AlignmentDesk", "size", "I", false)
  | 3 => ("AlignmentDesk", "label", "[B", true)
  | 4 => ("AlignmentDesk", "plain", "Z", false)
  | 5 => ("AlignmentDesk", "upTo", "[I", true)
  | 6 => ("AlignmentDesk", "onward", "[I", true)
  | _ => ("AlignmentDesk", "bestOn", "[I", true)
def tyX0 : Nat → FieldType := fun k => match k with
  | 0 => .int
  | 1 => .array .byte
  | 2 => .int
  | 3 => .array .byte
  | 4 => .boolean
  | 5 => .array .int
  | 6 => .array .int
  | _ => .array .int
abbrev wsX00 : List Cond := u_ws RX0 TX0 8
theorem nmX0 : ∀ a, a < 8 → ∀ b, b < 8 → a ≠ b → (TX0 a).2.1 ≠ (TX0 b).2.1 := by decide +kernel
theorem tyX0_ok : ∀ k, k < 8 → parseFieldDescriptor (TX0 k).2.2.1 = some (tyX0 k) := by decide +kernel
abbrev cX0_init : ByteArray := prog_1_method_1_code
def yX0_init : MethodName := ⟨RX0, "<init>", "()V"⟩
theorem dX0_init_0 : decode cX0_init 0 = .ok (.aload_n 0, 1) := by decide +kernel
theorem dX0_init_1 : decode cX0_init 1 = .ok (.invokespecial 1, 3) := by decide +kernel
theorem dX0_init_4 : decode cX0_init 4 = .ok (.aload_n 0, 1) := by decide +kernel
theorem dX0_init_5 : decode cX0_init 5 = .ok (.bipush 24, 2) := by decide +kernel
theorem dX0_init_7 : decode cX0_init 7 = .ok (.newarray .byte, 2) := by decide +kernel
theorem dX0_init_9 : decode cX0_init 9 = .ok (.putfield 7, 3) := by decide +kernel
theorem dX0_init_12 : decode cX0_init 12 = .ok (.aload_n 0, 1) := by decide +kernel
theorem dX0_init_13 : decode cX0_init 13 = .ok (.iconst 4, 1) := by decide +kernel
theorem dX0_init_14 : decode cX0_init 14 = .ok (.newarray .byte, 2) := by decide +kernel
theorem dX0_init_16 : decode cX0_init 16 = .ok (.putfield 13, 3) := by decide +kernel
theorem dX0_init_19 : decode cX0_init 19 = .ok (.aload_n 0, 1) := by decide +kernel
theorem dX0_init_20 : decode cX0_init 20 = .ok (.bipush 54, 2) := by decide +kernel
theorem dX0_init_22 : decode cX0_init 22 = .ok (.newarray .int, 2) := by decide +kernel
theorem dX0_init_24 : decode cX0_init 24 = .ok (.putfield 16, 3) := by decide +kernel
theorem dX0_init_27 : decode cX0_init 27 = .ok (.aload_n 0, 1) := by decide +kernel
theorem dX0_init_28 : decode cX0_init 28 = .ok (.bipush 54, 2) := by decide +kernel
theorem dX0_init_30 : decode cX0_init 30 = .ok (.newarray .int, 2) := by decide +kernel
theorem dX0_init_32 : decode cX0_init 32 = .ok (.putfield 20, 3) := by decide +kernel
theorem dX0_init_35 : decode cX0_init 35 = .ok (.aload_n 0, 1) := by decide +kernel
theorem dX0_init_36 : decode cX0_init 36 = .ok (.bipush 54, 2) := by decide +kernel
theorem dX0_init_38 : decode cX0_init 38 = .ok (.newarray .int, 2) := by decide +kernel
theorem dX0_init_40 : decode cX0_init 40 = .ok (.putfield 23, 3) := by decide +kernel
theorem dX0_init_43 : decode cX0_init 43 = .ok (.return_, 1) := by decide +kernel
abbrev cX0_frame : ByteArray := prog_1_method_4_code
def yX0_frame : MethodName := ⟨RX0, "frame", "(I)I"⟩
theorem dX0_frame_0 : decode cX0_frame 0 = .ok (.iload_n 1, 1) := by decide +kernel
theorem dX0_frame_1 : decode cX0_frame 1 = .ok (.ifCond .lt 10, 3) := by decide +kernel
theorem dX0_frame_4 : decode cX0_frame 4 = .ok (.iload_n 1, 1) := by decide +kernel
theorem dX0_frame_5 : decode cX0_frame 5 = .ok (.sipush 8888, 3) := by decide +kernel
theorem dX0_frame_8 : decode cX0_frame 8 = .ok (.if_icmp .le 5, 3) := by decide +kernel
theorem dX0_frame_11 : decode cX0_frame 11 = .ok (.iconst (-1), 1) := by decide +kernel
theorem dX0_frame_12 : decode cX0_frame 12 = .ok (.ireturn, 1) := by decide +kernel
theorem dX0_frame_13 : decode cX0_frame 13 = .ok (.iload_n 1, 1) := by decide +kernel
theorem dX0_frame_14 : decode cX0_frame 14 = .ok (.istore_n 2, 1) := by decide +kernel
theorem dX0_frame_15 : decode cX0_frame 15 = .ok (.iconst 0, 1) := by decide +kernel
theorem dX0_frame_16 : decode cX0_frame 16 = .ok (.istore_n 3, 1) := by decide +kernel
theorem dX0_frame_17 : decode cX0_frame 17 = .ok (.iload_n 3, 1) := by decide +kernel
theorem dX0_frame_18 : decode cX0_frame 18 = .ok (.iconst 4, 1) := by decide +kernel
theorem dX0_frame_19 : decode cX0_frame 19 = .ok (.if_icmp .ge 25, 3) := by decide +kernel
theorem dX0_frame_22 : decode cX0_frame 22 = .ok (.iload_n 2, 1) := by decide +kernel
theorem dX0_frame_23 : decode cX0_frame 23 = .ok (.bipush 10, 2) := by decide +kernel
theorem dX0_frame_25 : decode cX0_frame 25 = .ok (.irem, 1) := by decide +kernel
theorem dX0_frame_26 : decode cX0_frame 26 = .ok (.bipush 9, 2) := by decide +kernel
theorem dX0_frame_28 : decode cX0_frame 28 = .ok (.if_icmp .ne 5, 3) := by decide +kernel
theorem dX0_frame_31 : decode cX0_frame 31 = .ok (.iconst (-1), 1) := by decide +kernel
theorem dX0_frame_32 : decode cX0_frame 32 = .ok (.ireturn, 1) := by decide +kernel
theorem dX0_frame_33 : decode cX0_frame 33 = .ok (.iload_n 2, 1) := by decide +kernel
theorem dX0_frame_34 : decode cX0_frame 34 = .ok (.bipush 10, 2) := by decide +kernel
theorem dX0_frame_36 : decode cX0_frame 36 = .ok (.idiv, 1) := by decide +kernel
theorem dX0_frame_37 : decode cX0_frame 37 = .ok (.istore_n 2, 1) := by decide +kernel
theorem dX0_frame_38 : decode cX0_frame 38 = .ok (.iinc 3 1, 3) := by decide +kernel
theorem dX0_frame_41 : decode cX0_frame 41 = .ok (.goto (-24), 3) := by decide +kernel
theorem dX0_frame_44 : decode cX0_frame 44 = .ok (.aload_n 0, 1) := by decide +kernel
theorem dX0_frame_45 : decode cX0_frame 45 = .ok (.getfield 26, 3) := by decide +kernel
theorem dX0_frame_48 : decode cX0_frame 48 = .ok (.bipush 6, 2) := by decide +kernel
theorem dX0_frame_50 : decode cX0_frame 50 = .ok (.if_icmp .lt 6, 3) := by decide +kernel
theorem dX0_frame_53 : decode cX0_frame 53 = .ok (.bipush (-2), 2) := by decide +kernel
theorem dX0_frame_55 : decode cX0_frame 55 = .ok (.ireturn, 1) := by decide +kernel
theorem dX0_frame_56 : decode cX0_frame 56 = .ok (.iload_n 1, 1) := by decide +kernel
theorem dX0_frame_57 : decode cX0_frame 57 = .ok (.istore_n 2, 1) := by decide +kernel
theorem dX0_frame_58 : decode cX0_frame 58 = .ok (.iconst 0, 1) := by decide +kernel
theorem dX0_frame_59 : decode cX0_frame 59 = .ok (.istore_n 3, 1) := by decide +kernel
theorem dX0_frame_60 : decode cX0_frame 60 = .ok (.iload_n 3, 1) := by decide +kernel
theorem dX0_frame_61 : decode cX0_frame 61 = .ok (.iconst 4, 1) := by decide +kernel
theorem dX0_frame_62 : decode cX0_frame 62 = .ok (.if_icmp .ge 32, 3) := by decide +kernel
theorem dX0_frame_65 : decode cX0_frame 65 = .ok (.aload_n 0, 1) := by decide +kernel
theorem dX0_frame_66 : decode cX0_frame 66 = .ok (.getfield 7, 3) := by decide +kernel
theorem dX0_frame_69 : decode cX0_frame 69 = .ok (.aload_n 0, 1) := by decide +kernel
theorem dX0_frame_70 : decode cX0_frame 70 = .ok (.getfield 26, 3) := by decide +kernel
theorem dX0_frame_73 : decode cX0_frame 73 = .ok (.iconst 4, 1) := by decide +kernel
theorem dX0_frame_74 : decode cX0_frame 74 = .ok (.imul, 1) := by decide +kernel
theorem dX0_frame_75 : decode cX0_frame 75 = .ok (.iload_n 3, 1) := by decide +kernel
theorem dX0_frame_76 : decode cX0_frame 76 = .ok (.iadd, 1) := by decide +kernel
theorem dX0_frame_77 : decode cX0_frame 77 = .ok (.iload_n 2, 1) := by decide +kernel
theorem dX0_frame_78 : decode cX0_frame 78 = .ok (.bipush 10, 2) := by decide +kernel
theorem dX0_frame_80 : decode cX0_frame 80 = .ok (.irem, 1) := by decide +kernel
theorem dX0_frame_81 : decode cX0_frame 81 = .ok (.i2b, 1) := by decide +kernel
theorem dX0_frame_82 : decode cX0_frame 82 = .ok (.bastore, 1) := by decide +kernel
theorem dX0_frame_83 : decode cX0_frame 83 = .ok (.iload_n 2, 1) := by decide +kernel
theorem dX0_frame_84 : decode cX0_frame 84 = .ok (.bipush 10, 2) := by decide +kernel
theorem dX0_frame_86 : decode cX0_frame 86 = .ok (.idiv, 1) := by decide +kernel
theorem dX0_frame_87 : decode cX0_frame 87 = .ok (.istore_n 2, 1) := by decide +kernel
theorem dX0_frame_88 : decode cX0_frame 88 = .ok (.iinc 3 1, 3) := by decide +kernel
theorem dX0_frame_91 : decode cX0_frame 91 = .ok (.goto (-31), 3) := by decide +kernel
theorem dX0_frame_94 : decode cX0_frame 94 = .ok (.aload_n 0, 1) := by decide +kernel
theorem dX0_frame_95 : decode cX0_frame 95 = .ok (.dup, 1) := by decide +kernel
theorem dX0_frame_96 : decode cX0_frame 96 = .ok (.getfield 26, 3) := by decide +kernel
theorem dX0_frame_99 : decode cX0_frame 99 = .ok (.iconst 1, 1) := by decide +kernel
theorem dX0_frame_100 : decode cX0_frame 100 = .ok (.iadd, 1) := by decide +kernel
theorem dX0_frame_101 : decode cX0_frame 101 = .ok (.putfield 26, 3) := by decide +kernel
theorem dX0_frame_104 : decode cX0_frame 104 = .ok (.aload_n 0, 1) := by decide +kernel
theorem dX0_frame_105 : decode cX0_frame 105 = .ok (.getfield 26, 3) := by decide +kernel
theorem dX0_frame_108 : decode cX0_frame 108 = .ok (.iconst 1, 1) := by decide +kernel
theorem dX0_frame_109 : decode cX0_frame 109 = .ok (.isub, 1) := by decide +kernel
theorem dX0_frame_110 : decode cX0_frame 110 = .ok (.ireturn, 1) := by decide +kernel
abbrev cX0_dropFrame : ByteArray := prog_1_method_5_code
def yX0_dropFrame : MethodName := ⟨RX0, "dropFrame", "()I"⟩
theorem dX0_dropFrame_0 : decode cX0_dropFrame 0 = .ok (.aload_n 0, 1) := by decide +kernel
theorem dX0_dropFrame_1 : decode cX0_dropFrame 1 = .ok (.getfield 26, 3) := by decide +kernel
theorem dX0_dropFrame_4 : decode cX0_dropFrame 4 = .ok (.ifCond .ne 5, 3) := by decide +kernel
theorem dX0_dropFrame_7 : decode cX0_dropFrame 7 = .ok (.iconst (-1), 1) := by decide +kernel
theorem dX0_dropFrame_8 : decode cX0_dropFrame 8 = .ok (.ireturn, 1) := by decide +kernel
theorem dX0_dropFrame_9 : decode cX0_dropFrame 9 = .ok (.aload_n 0, 1) := by decide +kernel
theorem dX0_dropFrame_10 : decode cX0_dropFrame 10 = .ok (.dup, 1) := by decide +kernel
theorem dX0_dropFrame_11 : decode cX0_dropFrame 11 = .ok (.getfield 26, 3) := by decide +kernel
theorem dX0_dropFrame_14 : decode cX0_dropFrame 14 = .ok (.iconst 1, 1) := by decide +kernel
theorem dX0_dropFrame_15 : decode cX0_dropFrame 15 = .ok (.isub, 1) := by decide +kernel
theorem dX0_dropFrame_16 : decode cX0_dropFrame 16 = .ok (.putfield 26, 3) := by decide +kernel
theorem dX0_dropFrame_19 : decode cX0_dropFrame 19 = .ok (.aload_n 0, 1) := by decide +kernel
theorem dX0_dropFrame_20 : decode cX0_dropFrame 20 = .ok (.getfield 26, 3) := by decide +kernel
theorem dX0_dropFrame_23 : decode cX0_dropFrame 23 = .ok (.ireturn, 1) := by decide +kernel
abbrev cX0_weigh : ByteArray := prog_1_method_6_code
def yX0_weigh : MethodName := ⟨RX0, "weigh", "(III)Z"⟩
theorem dX0_weigh_0 : decode cX0_weigh 0 = .ok (.aload_n 0, 1) := by decide +kernel
theorem dX0_weigh_1 : decode cX0_weigh 1 = .ok (.iload_n 1, 1) := by decide +kernel
theorem dX0_weigh_2 : decode cX0_weigh 2 = .ok (.invokevirtual 30, 3) := by decide +kernel
theorem dX0_weigh_5 : decode cX0_weigh 5 = .ok (.ifCond .eq 20, 3) := by decide +kernel
theorem dX0_weigh_8 : decode cX0_weigh 8 = .ok (.iload_n 2, 1) := by decide +kernel
theorem dX0_weigh_9 : decode cX0_weigh 9 = .ok (.invokestatic 34, 3) := by decide +kernel
theorem dX0_weigh_12 : decode cX0_weigh 12 = .ok (.ifCond .eq 13, 3) := by decide +kernel
theorem dX0_weigh_15 : decode cX0_weigh 15 = .ok (.iload_n 3, 1) := by decide +kernel
theorem dX0_weigh_16 : decode cX0_weigh 16 = .ok (.ifCond .lt 9, 3) := by decide +kernel
theorem dX0_weigh_19 : decode cX0_weigh 19 = .ok (.iload_n 3, 1) := by decide +kernel
theorem dX0_weigh_20 : decode cX0_weigh 20 = .ok (.bipush 8, 2) := by decide +kernel
theorem dX0_weigh_22 : decode cX0_weigh 22 = .ok (.if_icmp .le 5, 3) := by decide +kernel
theorem dX0_weigh_25 : decode cX0_weigh 25 = .ok (.iconst 0, 1) := by decide +kernel
theorem dX0_weigh_26 : decode cX0_weigh 26 = .ok (.ireturn, 1) := by decide +kernel
theorem dX0_weigh_27 : decode cX0_weigh 27 = .ok (.aload_n 0, 1) := by decide +kernel
theorem dX0_weigh_28 : decode cX0_weigh 28 = .ok (.getfield 7, 3) := by decide +kernel
theorem dX0_weigh_31 : decode cX0_weigh 31 = .ok (.iload_n 1, 1) := by decide +kernel
theorem dX0_weigh_32 : decode cX0_weigh 32 = .ok (.iconst 4, 1) := by decide +kernel
theorem dX0_weigh_33 : decode cX0_weigh 33 = .ok (.imul, 1) := by decide +kernel
theorem dX0_weigh_34 : decode cX0_weigh 34 = .ok (.iload_n 2, 1) := by decide +kernel
theorem dX0_weigh_35 : decode cX0_weigh 35 = .ok (.iadd, 1) := by decide +kernel
theorem dX0_weigh_36 : decode cX0_weigh 36 = .ok (.iload_n 3, 1) := by decide +kernel
theorem dX0_weigh_37 : decode cX0_weigh 37 = .ok (.i2b, 1) := by decide +kernel
theorem dX0_weigh_38 : decode cX0_weigh 38 = .ok (.bastore, 1) := by decide +kernel
theorem dX0_weigh_39 : decode cX0_weigh 39 = .ok (.iconst 1, 1) := by decide +kernel
theorem dX0_weigh_40 : decode cX0_weigh 40 = .ok (.ireturn, 1) := by decide +kernel
abbrev cX0_isFrame : ByteArray := prog_1_method_3_code
def yX0_isFrame : MethodName := ⟨RX0, "isFrame", "(I)Z"⟩
theorem dX0_isFrame_0 : decode cX0_isFrame 0 = .ok (.iload_n 1, 1) := by decide +kernel
theorem dX0_isFrame_1 : decode cX0_isFrame 1 = .ok (.ifCond .lt 15, 3) := by decide +kernel
theorem dX0_isFrame_4 : decode cX0_isFrame 4 = .ok (.iload_n 1, 1) := by decide +kernel
theorem dX0_isFrame_5 : decode cX0_isFrame 5 = .ok (.aload_n 0, 1) := by decide +kernel
theorem dX0_isFrame_6 : decode cX0_isFrame 6 = .ok (.getfield 26, 3) := by decide +kernel
theorem dX0_isFrame_9 : decode cX0_isFrame 9 = .ok (.if_icmp .ge 7, 3) := by decide +kernel
theorem dX0_isFrame_12 : decode cX0_isFrame 12 = .ok (.iconst 1, 1) := by decide +kernel
theorem dX0_isFrame_13 : decode cX0_isFrame 13 = .ok (.goto 4, 3) := by decide +kernel
theorem dX0_isFrame_16 : decode cX0_isFrame 16 = .ok (.iconst 0, 1) := by decide +kernel
theorem dX0_isFrame_17 : decode cX0_isFrame 17 = .ok (.ireturn, 1) := by decide +kernel
abbrev cX0_isMark : ByteArray := prog_1_method_2_code
def yX0_isMark : MethodName := ⟨RX0, "isMark", "(I)Z"⟩
theorem dX0_isMark_0 : decode cX0_isMark 0 = .ok (.iload_n 0, 1) := by decide +kernel
theorem dX0_isMark_1 : decode cX0_isMark 1 = .ok (.ifCond .lt 12, 3) := by decide +kernel
theorem dX0_isMark_4 : decode cX0_isMark 4 = .ok (.iload_n 0, 1) := by decide +kernel
theorem dX0_isMark_5 : decode cX0_isMark 5 = .ok (.iconst 4, 1) := by decide +kernel
theorem dX0_isMark_6 : decode cX0_isMark 6 = .ok (.if_icmp .ge 7, 3) := by decide +kernel
theorem dX0_isMark_9 : decode cX0_isMark 9 = .ok (.iconst 1, 1) := by decide +kernel
theorem dX0_isMark_10 : decode cX0_isMark 10 = .ok (.goto 4, 3) := by decide +kernel
theorem dX0_isMark_13 : decode cX0_isMark 13 = .ok (.iconst 0, 1) := by decide +kernel
theorem dX0_isMark_14 : decode cX0_isMark 14 = .ok (.ireturn, 1) := by decide +kernel
abbrev cX0_write : ByteArray := prog_1_method_7_code
def yX0_write : MethodName := ⟨RX0, "write", "(I)I"⟩
theorem dX0_write_0 : decode cX0_write 0 = .ok (.iload_n 1, 1) := by decide +kernel
theorem dX0_write_1 : decode cX0_write 1 = .ok (.iconst 1, 1) := by decide +kernel
theorem dX0_write_2 : decode cX0_write 2 = .ok (.if_icmp .lt 8, 3) := by decide +kernel
theorem dX0_write_5 : decode cX0_write 5 = .ok (.iload_n 1, 1) := by decide +kernel
theorem dX0_write_6 : decode cX0_write 6 = .ok (.iconst 3, 1) := by decide +kernel
theorem dX0_write_7 : decode cX0_write 7 = .ok (.if_icmp .le 5, 3) := by decide +kernel
theorem dX0_write_10 : decode cX0_write 10 = .ok (.iconst (-1), 1) := by decide +kernel
theorem dX0_write_11 : decode cX0_write 11 = .ok (.ireturn, 1) := by decide +kernel
theorem dX0_write_12 : decode cX0_write 12 = .ok (.aload_n 0, 1) := by decide +kernel
theorem dX0_write_13 : decode cX0_write 13 = .ok (.getfield 37, 3) := by decide +kernel
theorem dX0_write_16 : decode cX0_write 16 = .ok (.iconst 4, 1) := by decide +kernel
theorem dX0_write_17 : decode cX0_write 17 = .ok (.if_icmp .lt 6, 3) := by decide +kernel
theorem dX0_write_20 : decode cX0_write 20 = .ok (.bipush (-2), 2) := by decide +kernel
theorem dX0_write_22 : decode cX0_write 22 = .ok (.ireturn, 1) := by decide +kernel
theorem dX0_write_23 : decode cX0_write 23 = .ok (.aload_n 0, 1) := by decide +kernel
theorem dX0_write_24 : decode cX0_write 24 = .ok (.getfield 13, 3) := by decide +kernel
theorem dX0_write_27 : decode cX0_write 27 = .ok (.aload_n 0, 1) := by decide +kernel
theorem dX0_write_28 : decode cX0_write 28 = .ok (.getfield 37, 3) := by decide +kernel
theorem dX0_write_31 : decode cX0_write 31 = .ok (.iload_n 1, 1) := by decide +kernel
theorem dX0_write_32 : decode cX0_write 32 = .ok (.i2b, 1) := by decide +kernel
theorem dX0_write_33 : decode cX0_write 33 = .ok (.bastore, 1) := by decide +kernel
theorem dX0_write_34 : decode cX0_write 34 = .ok (.aload_n 0, 1) := by decide +kernel
theorem dX0_write_35 : decode cX0_write 35 = .ok (.dup, 1) := by decide +kernel
theorem dX0_write_36 : decode cX0_write 36 = .ok (.getfield 37, 3) := by decide +kernel
theorem dX0_write_39 : decode cX0_write 39 = .ok (.iconst 1, 1) := by decide +kernel
theorem dX0_write_40 : decode cX0_write 40 = .ok (.iadd, 1) := by decide +kernel
theorem dX0_write_41 : decode cX0_write 41 = .ok (.putfield 37, 3) := by decide +kernel
theorem dX0_write_44 : decode cX0_write 44 = .ok (.aload_n 0, 1) := by decide +kernel
theorem dX0_write_45 : decode cX0_write 45 = .ok (.getfield 37, 3) := by decide +kernel
theorem dX0_write_48 : decode cX0_write 48 = .ok (.ireturn, 1) := by decide +kernel
abbrev cX0_rub : ByteArray := prog_1_method_8_code
def yX0_rub : MethodName := ⟨RX0, "rub", "()I"⟩
theorem dX0_rub_0 : decode cX0_rub 0 = .ok (.aload_n 0, 1) := by decide +kernel
theorem dX0_rub_1 : decode cX0_rub 1 = .ok (.getfield 37, 3) := by decide +kernel
theorem dX0_rub_4 : decode cX0_rub 4 = .ok (.ifCond .ne 5, 3) := by decide +kernel
theorem dX0_rub_7 : decode cX0_rub 7 = .ok (.iconst (-1), 1) := by decide +kernel
theorem dX0_rub_8 : decode cX0_rub 8 = .ok (.ireturn, 1) := by decide +kernel
theorem dX0_rub_9 : decode cX0_rub 9 = .ok (.aload_n 0, 1) := by decide +kernel
theorem dX0_rub_10 : decode cX0_rub 10 = .ok (.dup, 1) := by decide +kernel
theorem dX0_rub_11 : decode cX0_rub 11 = .ok (.getfield 37, 3) := by decide +kernel
theorem dX0_rub_14 : decode cX0_rub 14 = .ok (.iconst 1, 1) := by decide +kernel
theorem dX0_rub_15 : decode cX0_rub 15 = .ok (.isub, 1) := by decide +kernel
theorem dX0_rub_16 : decode cX0_rub 16 = .ok (.putfield 37, 3) := by decide +kernel
theorem dX0_rub_19 : decode cX0_rub 19 = .ok (.aload_n 0, 1) := by decide +kernel
theorem dX0_rub_20 : decode cX0_rub 20 = .ok (.getfield 13, 3) := by decide +kernel
theorem dX0_rub_23 : decode cX0_rub 23 = .ok (.aload_n 0, 1) := by decide +kernel
theorem dX0_rub_24 : decode cX0_rub 24 = .ok (.getfield 37, 3) := by decide +kernel
theorem dX0_rub_27 : decode cX0_rub 27 = .ok (.baload, 1) := by decide +kernel
theorem dX0_rub_28 : decode cX0_rub 28 = .ok (.ireturn, 1) := by decide +kernel
abbrev cX0_frames : ByteArray := prog_1_method_9_code
def yX0_frames : MethodName := ⟨RX0, "frames", "()I"⟩
theorem dX0_frames_0 : decode cX0_frames 0 = .ok (.aload_n 0, 1) := by decide +kernel
theorem dX0_frames_1 : decode cX0_frames 1 = .ok (.getfield 26, 3) := by decide +kernel
theorem dX0_frames_4 : decode cX0_frames 4 = .ok (.ireturn, 1) := by decide +kernel
abbrev cX0_length : ByteArray := prog_1_method_10_code
def yX0_length : MethodName := ⟨RX0, "length", "()I"⟩
theorem dX0_length_0 : decode cX0_length 0 = .ok (.aload_n 0, 1) := by decide +kernel
theorem dX0_length_1 : decode cX0_length 1 = .ok (.getfield 37, 3) := by decide +kernel
theorem dX0_length_4 : decode cX0_length 4 = .ok (.ireturn, 1) := by decide +kernel
abbrev cX0_total : ByteArray := prog_1_method_18_code
def yX0_total : MethodName := ⟨RX0, "total", "()I"⟩
theorem dX0_total_0 : decode cX0_total 0 = .ok (.aload_n 0, 1) := by decide +kernel
theorem dX0_total_1 : decode cX0_total 1 = .ok (.iconst 0, 1) := by decide +kernel
theorem dX0_total_2 : decode cX0_total 2 = .ok (.putfield 40, 3) := by decide +kernel
theorem dX0_total_5 : decode cX0_total 5 = .ok (.aload_n 0, 1) := by decide +kernel
theorem dX0_total_6 : decode cX0_total 6 = .ok (.invokevirtual 62, 3) := by decide +kernel
theorem dX0_total_9 : decode cX0_total 9 = .ok (.ireturn, 1) := by decide +kernel
abbrev cX0_sumAll : ByteArray := prog_1_method_17_code
def yX0_sumAll : MethodName := ⟨RX0, "sumAll", "()I"⟩
theorem dX0_sumAll_0 : decode cX0_sumAll 0 = .ok (.aload_n 0, 1) := by decide +kernel
theorem dX0_sumAll_1 : decode cX0_sumAll 1 = .ok (.invokevirtual 59, 3) := by decide +kernel
theorem dX0_sumAll_4 : decode cX0_sumAll 4 = .ok (.aload_n 0, 1) := by decide +kernel
theorem dX0_sumAll_5 : decode cX0_sumAll 5 = .ok (.getfield 26, 3) := by decide +kernel
theorem dX0_sumAll_8 : decode cX0_sumAll 8 = .ok (.ifCond .ne 16, 3) := by decide +kernel
theorem dX0_sumAll_11 : decode cX0_sumAll 11 = .ok (.aload_n 0, 1) := by decide +kernel
theorem dX0_sumAll_12 : decode cX0_sumAll 12 = .ok (.getfield 37, 3) := by decide +kernel
theorem dX0_sumAll_15 : decode cX0_sumAll 15 = .ok (.ifCond .ne 7, 3) := by decide +kernel
theorem dX0_sumAll_18 : decode cX0_sumAll 18 = .ok (.iconst 1, 1) := by decide +kernel
theorem dX0_sumAll_19 : decode cX0_sumAll 19 = .ok (.goto 4, 3) := by decide +kernel
theorem dX0_sumAll_22 : decode cX0_sumAll 22 = .ok (.iconst 0, 1) := by decide +kernel
theorem dX0_sumAll_23 : decode cX0_sumAll 23 = .ok (.ireturn, 1) := by decide +kernel
theorem dX0_sumAll_24 : decode cX0_sumAll 24 = .ok (.iconst 0, 1) := by decide +kernel
theorem dX0_sumAll_25 : decode cX0_sumAll 25 = .ok (.istore_n 1, 1) := by decide +kernel
theorem dX0_sumAll_26 : decode cX0_sumAll 26 = .ok (.iconst 0, 1) := by decide +kernel
theorem dX0_sumAll_27 : decode cX0_sumAll 27 = .ok (.istore_n 2, 1) := by decide +kernel
theorem dX0_sumAll_28 : decode cX0_sumAll 28 = .ok (.iload_n 2, 1) := by decide +kernel
theorem dX0_sumAll_29 : decode cX0_sumAll 29 = .ok (.iconst 2, 1) := by decide +kernel
theorem dX0_sumAll_30 : decode cX0_sumAll 30 = .ok (.aload_n 0, 1) := by decide +kernel
theorem dX0_sumAll_31 : decode cX0_sumAll 31 = .ok (.getfield 37, 3) := by decide +kernel
theorem dX0_sumAll_34 : decode cX0_sumAll 34 = .ok (.imul, 1) := by decide +kernel
theorem dX0_sumAll_35 : decode cX0_sumAll 35 = .ok (.if_icmp .gt 40, 3) := by decide +kernel
theorem dX0_sumAll_38 : decode cX0_sumAll 38 = .ok (.iload_n 1, 1) := by decide +kernel
theorem dX0_sumAll_39 : decode cX0_sumAll 39 = .ok (.aload_n 0, 1) := by decide +kernel
theorem dX0_sumAll_40 : decode cX0_sumAll 40 = .ok (.iload_n 2, 1) := by decide +kernel
theorem dX0_sumAll_41 : decode cX0_sumAll 41 = .ok (.invokevirtual 56, 3) := by decide +kernel
theorem dX0_sumAll_44 : decode cX0_sumAll 44 = .ok (.ifCond .eq 22, 3) := by decide +kernel
theorem dX0_sumAll_47 : decode cX0_sumAll 47 = .ok (.aload_n 0, 1) := by decide +kernel
theorem dX0_sumAll_48 : decode cX0_sumAll 48 = .ok (.getfield 16, 3) := by decide +kernel
theorem dX0_sumAll_51 : decode cX0_sumAll 51 = .ok (.aload_n 0, 1) := by decide +kernel
theorem dX0_sumAll_52 : decode cX0_sumAll 52 = .ok (.getfield 26, 3) := by decide +kernel
theorem dX0_sumAll_55 : decode cX0_sumAll 55 = .ok (.iconst 1, 1) := by decide +kernel
theorem dX0_sumAll_56 : decode cX0_sumAll 56 = .ok (.isub, 1) := by decide +kernel
theorem dX0_sumAll_57 : decode cX0_sumAll 57 = .ok (.bipush 9, 2) := by decide +kernel
theorem dX0_sumAll_59 : decode cX0_sumAll 59 = .ok (.imul, 1) := by decide +kernel
theorem dX0_sumAll_60 : decode cX0_sumAll 60 = .ok (.iload_n 2, 1) := by decide +kernel
theorem dX0_sumAll_61 : decode cX0_sumAll 61 = .ok (.iadd, 1) := by decide +kernel
theorem dX0_sumAll_62 : decode cX0_sumAll 62 = .ok (.iaload, 1) := by decide +kernel
theorem dX0_sumAll_63 : decode cX0_sumAll 63 = .ok (.goto 4, 3) := by decide +kernel
theorem dX0_sumAll_66 : decode cX0_sumAll 66 = .ok (.iconst 0, 1) := by decide +kernel
theorem dX0_sumAll_67 : decode cX0_sumAll 67 = .ok (.iadd, 1) := by decide +kernel
theorem dX0_sumAll_68 : decode cX0_sumAll 68 = .ok (.istore_n 1, 1) := by decide +kernel
theorem dX0_sumAll_69 : decode cX0_sumAll 69 = .ok (.iinc 2 1, 3) := by decide +kernel
theorem dX0_sumAll_72 : decode cX0_sumAll 72 = .ok (.goto (-44), 3) := by decide +kernel
theorem dX0_sumAll_75 : decode cX0_sumAll 75 = .ok (.iload_n 1, 1) := by decide +kernel
theorem dX0_sumAll_76 : decode cX0_sumAll 76 = .ok (.ireturn, 1) := by decide +kernel
abbrev cX0_carryOn : ByteArray := prog_1_method_15_code
def yX0_carryOn : MethodName := ⟨RX0, "carryOn", "()V"⟩
theorem dX0_carryOn_0 : decode cX0_carryOn 0 = .ok (.iconst 0, 1) := by decide +kernel
theorem dX0_carryOn_1 : decode cX0_carryOn 1 = .ok (.istore_n 1, 1) := by decide +kernel
theorem dX0_carryOn_2 : decode cX0_carryOn 2 = .ok (.iload_n 1, 1) := by decide +kernel
theorem dX0_carryOn_3 : decode cX0_carryOn 3 = .ok (.aload_n 0, 1) := by decide +kernel
theorem dX0_carryOn_4 : decode cX0_carryOn 4 = .ok (.getfield 26, 3) := by decide +kernel
theorem dX0_carryOn_7 : decode cX0_carryOn 7 = .ok (.if_icmp .ge 138, 3) := by decide +kernel
theorem dX0_carryOn_10 : decode cX0_carryOn 10 = .ok (.iconst 0, 1) := by decide +kernel
theorem dX0_carryOn_11 : decode cX0_carryOn 11 = .ok (.istore_n 2, 1) := by decide +kernel
theorem dX0_carryOn_12 : decode cX0_carryOn 12 = .ok (.iload_n 2, 1) := by decide +kernel
theorem dX0_carryOn_13 : decode cX0_carryOn 13 = .ok (.iconst 2, 1) := by decide +kernel
theorem dX0_carryOn_14 : decode cX0_carryOn 14 = .ok (.aload_n 0, 1) := by decide +kernel
theorem dX0_carryOn_15 : decode cX0_carryOn 15 = .ok (.getfield 37, 3) := by decide +kernel
theorem dX0_carryOn_18 : decode cX0_carryOn 18 = .ok (.imul, 1) := by decide +kernel
theorem dX0_carryOn_19 : decode cX0_carryOn 19 = .ok (.if_icmp .gt 120, 3) := by decide +kernel
theorem dX0_carryOn_22 : decode cX0_carryOn 22 = .ok (.iload_n 1, 1) := by decide +kernel
theorem dX0_carryOn_23 : decode cX0_carryOn 23 = .ok (.ifCond .ne 12, 3) := by decide +kernel
theorem dX0_carryOn_26 : decode cX0_carryOn 26 = .ok (.iload_n 2, 1) := by decide +kernel
theorem dX0_carryOn_27 : decode cX0_carryOn 27 = .ok (.iconst 1, 1) := by decide +kernel
theorem dX0_carryOn_28 : decode cX0_carryOn 28 = .ok (.if_icmp .gt 7, 3) := by decide +kernel
theorem dX0_carryOn_31 : decode cX0_carryOn 31 = .ok (.iconst 1, 1) := by decide +kernel
theorem dX0_carryOn_32 : decode cX0_carryOn 32 = .ok (.goto 4, 3) := by decide +kernel
theorem dX0_carryOn_35 : decode cX0_carryOn 35 = .ok (.iconst 0, 1) := by decide +kernel
theorem dX0_carryOn_36 : decode cX0_carryOn 36 = .ok (.istore_n 3, 1) := by decide +kernel
theorem dX0_carryOn_37 : decode cX0_carryOn 37 = .ok (.iload_n 2, 1) := by decide +kernel
theorem dX0_carryOn_38 : decode cX0_carryOn 38 = .ok (.iconst 2, 1) := by decide +kernel
theorem dX0_carryOn_39 : decode cX0_carryOn 39 = .ok (.isub, 1) := by decide +kernel
theorem dX0_carryOn_40 : decode cX0_carryOn 40 = .ok (.istore 4, 2) := by decide +kernel
theorem dX0_carryOn_42 : decode cX0_carryOn 42 = .ok (.iload 4, 2) := by decide +kernel
theorem dX0_carryOn_44 : decode cX0_carryOn 44 = .ok (.iload_n 2, 1) := by decide +kernel
theorem dX0_carryOn_45 : decode cX0_carryOn 45 = .ok (.if_icmp .gt 61, 3) := by decide +kernel
theorem dX0_carryOn_48 : decode cX0_carryOn 48 = .ok (.iload_n 1, 1) := by decide +kernel
theorem dX0_carryOn_49 : decode cX0_carryOn 49 = .ok (.ifCond .le 22, 3) := by decide +kernel
theorem dX0_carryOn_52 : decode cX0_carryOn 52 = .ok (.iload 4, 2) := by decide +kernel
theorem dX0_carryOn_54 : decode cX0_carryOn 54 = .ok (.ifCond .lt 17, 3) := by decide +kernel
theorem dX0_carryOn_57 : decode cX0_carryOn 57 = .ok (.aload_n 0, 1) := by decide +kernel
theorem dX0_carryOn_58 : decode cX0_carryOn 58 = .ok (.iload 4, 2) := by decide +kernel
theorem dX0_carryOn_60 : decode cX0_carryOn 60 = .ok (.iload_n 2, 1) := by decide +kernel
theorem dX0_carryOn_61 : decode cX0_carryOn 61 = .ok (.invokevirtual 48, 3) := by decide +kernel
theorem dX0_carryOn_64 : decode cX0_carryOn 64 = .ok (.ifCond .eq 7, 3) := by decide +kernel
theorem dX0_carryOn_67 : decode cX0_carryOn 67 = .ok (.iconst 1, 1) := by decide +kernel
theorem dX0_carryOn_68 : decode cX0_carryOn 68 = .ok (.goto 4, 3) := by decide +kernel
theorem dX0_carryOn_71 : decode cX0_carryOn 71 = .ok (.iconst 0, 1) := by decide +kernel
theorem dX0_carryOn_72 : decode cX0_carryOn 72 = .ok (.istore 5, 2) := by decide +kernel
theorem dX0_carryOn_74 : decode cX0_carryOn 74 = .ok (.iload_n 3, 1) := by decide +kernel
theorem dX0_carryOn_75 : decode cX0_carryOn 75 = .ok (.iload 5, 2) := by decide +kernel
theorem dX0_carryOn_77 : decode cX0_carryOn 77 = .ok (.ifCond .eq 20, 3) := by decide +kernel
theorem dX0_carryOn_80 : decode cX0_carryOn 80 = .ok (.aload_n 0, 1) := by decide +kernel
theorem dX0_carryOn_81 : decode cX0_carryOn 81 = .ok (.getfield 16, 3) := by decide +kernel
theorem dX0_carryOn_84 : decode cX0_carryOn 84 = .ok (.iload_n 1, 1) := by decide +kernel
theorem dX0_carryOn_85 : decode cX0_carryOn 85 = .ok (.iconst 1, 1) := by decide +kernel
theorem dX0_carryOn_86 : decode cX0_carryOn 86 = .ok (.isub, 1) := by decide +kernel
theorem dX0_carryOn_87 : decode cX0_carryOn 87 = .ok (.bipush 9, 2) := by decide +kernel
theorem dX0_carryOn_89 : decode cX0_carryOn 89 = .ok (.imul, 1) := by decide +kernel
theorem dX0_carryOn_90 : decode cX0_carryOn 90 = .ok (.iload 4, 2) := by decide +kernel
theorem dX0_carryOn_92 : decode cX0_carryOn 92 = .ok (.iadd, 1) := by decide +kernel
theorem dX0_carryOn_93 : decode cX0_carryOn 93 = .ok (.iaload, 1) := by decide +kernel
theorem dX0_carryOn_94 : decode cX0_carryOn 94 = .ok (.goto 4, 3) := by decide +kernel
theorem dX0_carryOn_97 : decode cX0_carryOn 97 = .ok (.iconst 0, 1) := by decide +kernel
theorem dX0_carryOn_98 : decode cX0_carryOn 98 = .ok (.iadd, 1) := by decide +kernel
theorem dX0_carryOn_99 : decode cX0_carryOn 99 = .ok (.istore_n 3, 1) := by decide +kernel
theorem dX0_carryOn_100 : decode cX0_carryOn 100 = .ok (.iinc 4 1, 3) := by decide +kernel
theorem dX0_carryOn_103 : decode cX0_carryOn 103 = .ok (.goto (-61), 3) := by decide +kernel
theorem dX0_carryOn_106 : decode cX0_carryOn 106 = .ok (.aload_n 0, 1) := by decide +kernel
theorem dX0_carryOn_107 : decode cX0_carryOn 107 = .ok (.iload_n 2, 1) := by decide +kernel
theorem dX0_carryOn_108 : decode cX0_carryOn 108 = .ok (.invokevirtual 44, 3) := by decide +kernel
theorem dX0_carryOn_111 : decode cX0_carryOn 111 = .ok (.istore 4, 2) := by decide +kernel
theorem dX0_carryOn_113 : decode cX0_carryOn 113 = .ok (.aload_n 0, 1) := by decide +kernel
theorem dX0_carryOn_114 : decode cX0_carryOn 114 = .ok (.getfield 16, 3) := by decide +kernel
theorem dX0_carryOn_117 : decode cX0_carryOn 117 = .ok (.iload_n 1, 1) := by decide +kernel
theorem dX0_carryOn_118 : decode cX0_carryOn 118 = .ok (.bipush 9, 2) := by decide +kernel
theorem dX0_carryOn_120 : decode cX0_carryOn 120 = .ok (.imul, 1) := by decide +kernel
theorem dX0_carryOn_121 : decode cX0_carryOn 121 = .ok (.iload_n 2, 1) := by decide +kernel
theorem dX0_carryOn_122 : decode cX0_carryOn 122 = .ok (.iadd, 1) := by decide +kernel
theorem dX0_carryOn_123 : decode cX0_carryOn 123 = .ok (.iload_n 3, 1) := by decide +kernel
theorem dX0_carryOn_124 : decode cX0_carryOn 124 = .ok (.aload_n 0, 1) := by decide +kernel
theorem dX0_carryOn_125 : decode cX0_carryOn 125 = .ok (.iload_n 1, 1) := by decide +kernel
theorem dX0_carryOn_126 : decode cX0_carryOn 126 = .ok (.iload 4, 2) := by decide +kernel
theorem dX0_carryOn_128 : decode cX0_carryOn 128 = .ok (.invokevirtual 52, 3) := by decide +kernel
theorem dX0_carryOn_131 : decode cX0_carryOn 131 = .ok (.imul, 1) := by decide +kernel
theorem dX0_carryOn_132 : decode cX0_carryOn 132 = .ok (.iastore, 1) := by decide +kernel
theorem dX0_carryOn_133 : decode cX0_carryOn 133 = .ok (.iinc 2 1, 3) := by decide +kernel
theorem dX0_carryOn_136 : decode cX0_carryOn 136 = .ok (.goto (-124), 3) := by decide +kernel
theorem dX0_carryOn_139 : decode cX0_carryOn 139 = .ok (.iinc 1 1, 3) := by decide +kernel
theorem dX0_carryOn_142 : decode cX0_carryOn 142 = .ok (.goto (-140), 3) := by decide +kernel
theorem dX0_carryOn_145 : decode cX0_carryOn 145 = .ok (.return_, 1) := by decide +kernel
abbrev cX0_leads : ByteArray := prog_1_method_13_code
def yX0_leads : MethodName := ⟨RX0, "leads", "(II)Z"⟩
theorem dX0_leads_0 : decode cX0_leads 0 = .ok (.iload_n 2, 1) := by decide +kernel
theorem dX0_leads_1 : decode cX0_leads 1 = .ok (.iload_n 1, 1) := by decide +kernel
theorem dX0_leads_2 : decode cX0_leads 2 = .ok (.if_icmp .eq 10, 3) := by decide +kernel
theorem dX0_leads_5 : decode cX0_leads 5 = .ok (.iload_n 2, 1) := by decide +kernel
theorem dX0_leads_6 : decode cX0_leads 6 = .ok (.iload_n 1, 1) := by decide +kernel
theorem dX0_leads_7 : decode cX0_leads 7 = .ok (.iconst 1, 1) := by decide +kernel
theorem dX0_leads_8 : decode cX0_leads 8 = .ok (.iadd, 1) := by decide +kernel
theorem dX0_leads_9 : decode cX0_leads 9 = .ok (.if_icmp .ne 5, 3) := by decide +kernel
theorem dX0_leads_12 : decode cX0_leads 12 = .ok (.iconst 1, 1) := by decide +kernel
theorem dX0_leads_13 : decode cX0_leads 13 = .ok (.ireturn, 1) := by decide +kernel
theorem dX0_leads_14 : decode cX0_leads 14 = .ok (.iload_n 2, 1) := by decide +kernel
theorem dX0_leads_15 : decode cX0_leads 15 = .ok (.iload_n 1, 1) := by decide +kernel
theorem dX0_leads_16 : decode cX0_leads 16 = .ok (.iconst 2, 1) := by decide +kernel
theorem dX0_leads_17 : decode cX0_leads 17 = .ok (.iadd, 1) := by decide +kernel
theorem dX0_leads_18 : decode cX0_leads 18 = .ok (.if_icmp .ne 27, 3) := by decide +kernel
theorem dX0_leads_21 : decode cX0_leads 21 = .ok (.iload_n 2, 1) := by decide +kernel
theorem dX0_leads_22 : decode cX0_leads 22 = .ok (.iconst 1, 1) := by decide +kernel
theorem dX0_leads_23 : decode cX0_leads 23 = .ok (.iand, 1) := by decide +kernel
theorem dX0_leads_24 : decode cX0_leads 24 = .ok (.iconst 1, 1) := by decide +kernel
theorem dX0_leads_25 : decode cX0_leads 25 = .ok (.if_icmp .ne 20, 3) := by decide +kernel
theorem dX0_leads_28 : decode cX0_leads 28 = .ok (.aload_n 0, 1) := by decide +kernel
theorem dX0_leads_29 : decode cX0_leads 29 = .ok (.iload_n 2, 1) := by decide +kernel
theorem dX0_leads_30 : decode cX0_leads 30 = .ok (.invokevirtual 44, 3) := by decide +kernel
theorem dX0_leads_33 : decode cX0_leads 33 = .ok (.aload_n 0, 1) := by decide +kernel
theorem dX0_leads_34 : decode cX0_leads 34 = .ok (.iload_n 1, 1) := by decide +kernel
theorem dX0_leads_35 : decode cX0_leads 35 = .ok (.invokevirtual 44, 3) := by decide +kernel
theorem dX0_leads_38 : decode cX0_leads 38 = .ok (.if_icmp .eq 7, 3) := by decide +kernel
theorem dX0_leads_41 : decode cX0_leads 41 = .ok (.iconst 1, 1) := by decide +kernel
theorem dX0_leads_42 : decode cX0_leads 42 = .ok (.goto 4, 3) := by decide +kernel
theorem dX0_leads_45 : decode cX0_leads 45 = .ok (.iconst 0, 1) := by decide +kernel
theorem dX0_leads_46 : decode cX0_leads 46 = .ok (.ireturn, 1) := by decide +kernel
abbrev cX0_markAt : ByteArray := prog_1_method_11_code
def yX0_markAt : MethodName := ⟨RX0, "markAt", "(I)I"⟩
theorem dX0_markAt_0 : decode cX0_markAt 0 = .ok (.iload_n 1, 1) := by decide +kernel
theorem dX0_markAt_1 : decode cX0_markAt 1 = .ok (.iconst 1, 1) := by decide +kernel
theorem dX0_markAt_2 : decode cX0_markAt 2 = .ok (.iand, 1) := by decide +kernel
theorem dX0_markAt_3 : decode cX0_markAt 3 = .ok (.ifCond .ne 7, 3) := by decide +kernel
theorem dX0_markAt_6 : decode cX0_markAt 6 = .ok (.iconst 0, 1) := by decide +kernel
theorem dX0_markAt_7 : decode cX0_markAt 7 = .ok (.goto 11, 3) := by decide +kernel
theorem dX0_markAt_10 : decode cX0_markAt 10 = .ok (.aload_n 0, 1) := by decide +kernel
theorem dX0_markAt_11 : decode cX0_markAt 11 = .ok (.getfield 13, 3) := by decide +kernel
theorem dX0_markAt_14 : decode cX0_markAt 14 = .ok (.iload_n 1, 1) := by decide +kernel
theorem dX0_markAt_15 : decode cX0_markAt 15 = .ok (.iconst 1, 1) := by decide +kernel
theorem dX0_markAt_16 : decode cX0_markAt 16 = .ok (.ishr, 1) := by decide +kernel
theorem dX0_markAt_17 : decode cX0_markAt 17 = .ok (.baload, 1) := by decide +kernel
theorem dX0_markAt_18 : decode cX0_markAt 18 = .ok (.ireturn, 1) := by decide +kernel
abbrev cX0_weightOf : ByteArray := prog_1_method_12_code
def yX0_weightOf : MethodName := ⟨RX0, "weightOf", "(II)I"⟩
theorem dX0_weightOf_0 : decode cX0_weightOf 0 = .ok (.aload_n 0, 1) := by decide +kernel
theorem dX0_weightOf_1 : decode cX0_weightOf 1 = .ok (.getfield 40, 3) := by decide +kernel
theorem dX0_weightOf_4 : decode cX0_weightOf 4 = .ok (.ifCond .eq 7, 3) := by decide +kernel
theorem dX0_weightOf_7 : decode cX0_weightOf 7 = .ok (.iconst 1, 1) := by decide +kernel
theorem dX0_weightOf_8 : decode cX0_weightOf 8 = .ok (.goto 13, 3) := by decide +kernel
theorem dX0_weightOf_11 : decode cX0_weightOf 11 = .ok (.aload_n 0, 1) := by decide +kernel
theorem dX0_weightOf_12 : decode cX0_weightOf 12 = .ok (.getfield 7, 3) := by decide +kernel
theorem dX0_weightOf_15 : decode cX0_weightOf 15 = .ok (.iload_n 1, 1) := by decide +kernel
theorem dX0_weightOf_16 : decode cX0_weightOf 16 = .ok (.iconst 4, 1) := by decide +kernel
theorem dX0_weightOf_17 : decode cX0_weightOf 17 = .ok (.imul, 1) := by decide +kernel
theorem dX0_weightOf_18 : decode cX0_weightOf 18 = .ok (.iload_n 2, 1) := by decide +kernel
theorem dX0_weightOf_19 : decode cX0_weightOf 19 = .ok (.iadd, 1) := by decide +kernel
theorem dX0_weightOf_20 : decode cX0_weightOf 20 = .ok (.baload, 1) := by decide +kernel
theorem dX0_weightOf_21 : decode cX0_weightOf 21 = .ok (.ireturn, 1) := by decide +kernel
abbrev cX0_endsAt : ByteArray := prog_1_method_14_code
def yX0_endsAt : MethodName := ⟨RX0, "endsAt", "(I)Z"⟩
theorem dX0_endsAt_0 : decode cX0_endsAt 0 = .ok (.iload_n 1, 1) := by decide +kernel
theorem dX0_endsAt_1 : decode cX0_endsAt 1 = .ok (.iconst 2, 1) := by decide +kernel
theorem dX0_endsAt_2 : decode cX0_endsAt 2 = .ok (.aload_n 0, 1) := by decide +kernel
theorem dX0_endsAt_3 : decode cX0_endsAt 3 = .ok (.getfield 37, 3) := by decide +kernel
theorem dX0_endsAt_6 : decode cX0_endsAt 6 = .ok (.imul, 1) := by decide +kernel
theorem dX0_endsAt_7 : decode cX0_endsAt 7 = .ok (.iconst 1, 1) := by decide +kernel
theorem dX0_endsAt_8 : decode cX0_endsAt 8 = .ok (.isub, 1) := by decide +kernel
theorem dX0_endsAt_9 : decode cX0_endsAt 9 = .ok (.if_icmp .lt 7, 3) := by decide +kernel
theorem dX0_endsAt_12 : decode cX0_endsAt 12 = .ok (.iconst 1, 1) := by decide +kernel
theorem dX0_endsAt_13 : decode cX0_endsAt 13 = .ok (.goto 4, 3) := by decide +kernel
theorem dX0_endsAt_16 : decode cX0_endsAt 16 = .ok (.iconst 0, 1) := by decide +kernel
theorem dX0_endsAt_17 : decode cX0_endsAt 17 = .ok (.ireturn, 1) := by decide +kernel
abbrev cX0_paths : ByteArray := prog_1_method_19_code
def yX0_paths : MethodName := ⟨RX0, "paths", "()I"⟩
theorem dX0_paths_0 : decode cX0_paths 0 = .ok (.aload_n 0, 1) := by decide +kernel
theorem dX0_paths_1 : decode cX0_paths 1 = .ok (.iconst 1, 1) := by decide +kernel
theorem dX0_paths_2 : decode cX0_paths 2 = .ok (.putfield 40, 3) := by decide +kernel
theorem dX0_paths_5 : decode cX0_paths 5 = .ok (.aload_n 0, 1) := by decide +kernel
theorem dX0_paths_6 : decode cX0_paths 6 = .ok (.invokevirtual 62, 3) := by decide +kernel
theorem dX0_paths_9 : decode cX0_paths 9 = .ok (.ireturn, 1) := by decide +kernel
abbrev cX0_best : ByteArray := prog_1_method_22_code
def yX0_best : MethodName := ⟨RX0, "best", "()I"⟩
theorem dX0_best_0 : decode cX0_best 0 = .ok (.aload_n 0, 1) := by decide +kernel
theorem dX0_best_1 : decode cX0_best 1 = .ok (.invokevirtual 72, 3) := by decide +kernel
theorem dX0_best_4 : decode cX0_best 4 = .ok (.istore_n 1, 1) := by decide +kernel
theorem dX0_best_5 : decode cX0_best 5 = .ok (.iload_n 1, 1) := by decide +kernel
theorem dX0_best_6 : decode cX0_best 6 = .ok (.ifCond .ge 7, 3) := by decide +kernel
theorem dX0_best_9 : decode cX0_best 9 = .ok (.iconst 0, 1) := by decide +kernel
theorem dX0_best_10 : decode cX0_best 10 = .ok (.goto 4, 3) := by decide +kernel
theorem dX0_best_13 : decode cX0_best 13 = .ok (.iload_n 1, 1) := by decide +kernel
theorem dX0_best_14 : decode cX0_best 14 = .ok (.ireturn, 1) := by decide +kernel
abbrev cX0_greatest : ByteArray := prog_1_method_21_code
def yX0_greatest : MethodName := ⟨RX0, "greatest", "()I"⟩
theorem dX0_greatest_0 : decode cX0_greatest 0 = .ok (.aload_n 0, 1) := by decide +kernel
theorem dX0_greatest_1 : decode cX0_greatest 1 = .ok (.iconst 0, 1) := by decide +kernel
theorem dX0_greatest_2 : decode cX0_greatest 2 = .ok (.putfield 40, 3) := by decide +kernel
theorem dX0_greatest_5 : decode cX0_greatest 5 = .ok (.aload_n 0, 1) := by decide +kernel
theorem dX0_greatest_6 : decode cX0_greatest 6 = .ok (.getfield 26, 3) := by decide +kernel
theorem dX0_greatest_9 : decode cX0_greatest 9 = .ok (.ifCond .ne 16, 3) := by decide +kernel
theorem dX0_greatest_12 : decode cX0_greatest 12 = .ok (.aload_n 0, 1) := by decide +kernel
theorem dX0_greatest_13 : decode cX0_greatest 13 = .ok (.getfield 37, 3) := by decide +kernel
theorem dX0_greatest_16 : decode cX0_greatest 16 = .ok (.ifCond .ne 7, 3) := by decide +kernel
theorem dX0_greatest_19 : decode cX0_greatest 19 = .ok (.iconst 1, 1) := by decide +kernel
theorem dX0_greatest_20 : decode cX0_greatest 20 = .ok (.goto 4, 3) := by decide +kernel
theorem dX0_greatest_23 : decode cX0_greatest 23 = .ok (.iconst (-1), 1) := by decide +kernel
theorem dX0_greatest_24 : decode cX0_greatest 24 = .ok (.ireturn, 1) := by decide +kernel
theorem dX0_greatest_25 : decode cX0_greatest 25 = .ok (.aload_n 0, 1) := by decide +kernel
theorem dX0_greatest_26 : decode cX0_greatest 26 = .ok (.invokevirtual 66, 3) := by decide +kernel
theorem dX0_greatest_29 : decode cX0_greatest 29 = .ok (.aload_n 0, 1) := by decide +kernel
theorem dX0_greatest_30 : decode cX0_greatest 30 = .ok (.iconst 0, 1) := by decide +kernel
theorem dX0_greatest_31 : decode cX0_greatest 31 = .ok (.invokevirtual 69, 3) := by decide +kernel
theorem dX0_greatest_34 : decode cX0_greatest 34 = .ok (.istore_n 1, 1) := by decide +kernel
theorem dX0_greatest_35 : decode cX0_greatest 35 = .ok (.aload_n 0, 1) := by decide +kernel
theorem dX0_greatest_36 : decode cX0_greatest 36 = .ok (.getfield 37, 3) := by decide +kernel
theorem dX0_greatest_39 : decode cX0_greatest 39 = .ok (.ifCond .le 11, 3) := by decide +kernel
theorem dX0_greatest_42 : decode cX0_greatest 42 = .ok (.aload_n 0, 1) := by decide +kernel
theorem dX0_greatest_43 : decode cX0_greatest 43 = .ok (.iconst 1, 1) := by decide +kernel
theorem dX0_greatest_44 : decode cX0_greatest 44 = .ok (.invokevirtual 69, 3) := by decide +kernel
theorem dX0_greatest_47 : decode cX0_greatest 47 = .ok (.goto 4, 3) := by decide +kernel
theorem dX0_greatest_50 : decode cX0_greatest 50 = .ok (.iconst (-1), 1) := by decide +kernel
theorem dX0_greatest_51 : decode cX0_greatest 51 = .ok (.istore_n 2, 1) := by decide +kernel
theorem dX0_greatest_52 : decode cX0_greatest 52 = .ok (.iload_n 2, 1) := by decide +kernel
theorem dX0_greatest_53 : decode cX0_greatest 53 = .ok (.iload_n 1, 1) := by decide +kernel
theorem dX0_greatest_54 : decode cX0_greatest 54 = .ok (.if_icmp .le 7, 3) := by decide +kernel
theorem dX0_greatest_57 : decode cX0_greatest 57 = .ok (.iload_n 2, 1) := by decide +kernel
theorem dX0_greatest_58 : decode cX0_greatest 58 = .ok (.goto 4, 3) := by decide +kernel
theorem dX0_greatest_61 : decode cX0_greatest 61 = .ok (.iload_n 1, 1) := by decide +kernel
theorem dX0_greatest_62 : decode cX0_greatest 62 = .ok (.ireturn, 1) := by decide +kernel
abbrev cX0_carryBack : ByteArray := prog_1_method_16_code
def yX0_carryBack : MethodName := ⟨RX0, "carryBack", "()V"⟩
theorem dX0_carryBack_0 : decode cX0_carryBack 0 = .ok (.aload_n 0, 1) := by decide +kernel
theorem dX0_carryBack_1 : decode cX0_carryBack 1 = .ok (.getfield 26, 3) := by decide +kernel
theorem dX0_carryBack_4 : decode cX0_carryBack 4 = .ok (.iconst 1, 1) := by decide +kernel
theorem dX0_carryBack_5 : decode cX0_carryBack 5 = .ok (.isub, 1) := by decide +kernel
theorem dX0_carryBack_6 : decode cX0_carryBack 6 = .ok (.istore_n 1, 1) := by decide +kernel
theorem dX0_carryBack_7 : decode cX0_carryBack 7 = .ok (.iload_n 1, 1) := by decide +kernel
theorem dX0_carryBack_8 : decode cX0_carryBack 8 = .ok (.ifCond .lt 234, 3) := by decide +kernel
theorem dX0_carryBack_11 : decode cX0_carryBack 11 = .ok (.iconst 0, 1) := by decide +kernel
theorem dX0_carryBack_12 : decode cX0_carryBack 12 = .ok (.istore_n 2, 1) := by decide +kernel
theorem dX0_carryBack_13 : decode cX0_carryBack 13 = .ok (.iload_n 2, 1) := by decide +kernel
theorem dX0_carryBack_14 : decode cX0_carryBack 14 = .ok (.iconst 2, 1) := by decide +kernel
theorem dX0_carryBack_15 : decode cX0_carryBack 15 = .ok (.aload_n 0, 1) := by decide +kernel
theorem dX0_carryBack_16 : decode cX0_carryBack 16 = .ok (.getfield 37, 3) := by decide +kernel
theorem dX0_carryBack_19 : decode cX0_carryBack 19 = .ok (.imul, 1) := by decide +kernel
theorem dX0_carryBack_20 : decode cX0_carryBack 20 = .ok (.if_icmp .gt 216, 3) := by decide +kernel
theorem dX0_carryBack_23 : decode cX0_carryBack 23 = .ok (.iload_n 1, 1) := by decide +kernel
theorem dX0_carryBack_24 : decode cX0_carryBack 24 = .ok (.aload_n 0, 1) := by decide +kernel
theorem dX0_carryBack_25 : decode cX0_carryBack 25 = .ok (.getfield 26, 3) := by decide +kernel
theorem dX0_carryBack_28 : decode cX0_carryBack 28 = .ok (.iconst 1, 1) := by decide +kernel
theorem dX0_carryBack_29 : decode cX0_carryBack 29 = .ok (.isub, 1) := by decide +kernel
theorem dX0_carryBack_30 : decode cX0_carryBack 30 = .ok (.if_icmp .ne 15, 3) := by decide +kernel
theorem dX0_carryBack_33 : decode cX0_carryBack 33 = .ok (.aload_n 0, 1) := by decide +kernel
theorem dX0_carryBack_34 : decode cX0_carryBack 34 = .ok (.iload_n 2, 1) := by decide +kernel
theorem dX0_carryBack_35 : decode cX0_carryBack 35 = .ok (.invokevirtual 56, 3) := by decide +kernel
theorem dX0_carryBack_38 : decode cX0_carryBack 38 = .ok (.ifCond .eq 7, 3) := by decide +kernel
theorem dX0_carryBack_41 : decode cX0_carryBack 41 = .ok (.iconst 1, 1) := by decide +kernel
theorem dX0_carryBack_42 : decode cX0_carryBack 42 = .ok (.goto 4, 3) := by decide +kernel
theorem dX0_carryBack_45 : decode cX0_carryBack 45 = .ok (.iconst 0, 1) := by decide +kernel
theorem dX0_carryBack_46 : decode cX0_carryBack 46 = .ok (.istore_n 3, 1) := by decide +kernel
theorem dX0_carryBack_47 : decode cX0_carryBack 47 = .ok (.iload_n 1, 1) := by decide +kernel
theorem dX0_carryBack_48 : decode cX0_carryBack 48 = .ok (.aload_n 0, 1) := by decide +kernel
theorem dX0_carryBack_49 : decode cX0_carryBack 49 = .ok (.getfield 26, 3) := by decide +kernel
theorem dX0_carryBack_52 : decode cX0_carryBack 52 = .ok (.iconst 1, 1) := by decide +kernel
theorem dX0_carryBack_53 : decode cX0_carryBack 53 = .ok (.isub, 1) := by decide +kernel
theorem dX0_carryBack_54 : decode cX0_carryBack 54 = .ok (.if_icmp .ne 15, 3) := by decide +kernel
theorem dX0_carryBack_57 : decode cX0_carryBack 57 = .ok (.aload_n 0, 1) := by decide +kernel
theorem dX0_carryBack_58 : decode cX0_carryBack 58 = .ok (.iload_n 2, 1) := by decide +kernel
theorem dX0_carryBack_59 : decode cX0_carryBack 59 = .ok (.invokevirtual 56, 3) := by decide +kernel
theorem dX0_carryBack_62 : decode cX0_carryBack 62 = .ok (.ifCond .eq 7, 3) := by decide +kernel
theorem dX0_carryBack_65 : decode cX0_carryBack 65 = .ok (.iconst 1, 1) := by decide +kernel
theorem dX0_carryBack_66 : decode cX0_carryBack 66 = .ok (.goto 4, 3) := by decide +kernel
theorem dX0_carryBack_69 : decode cX0_carryBack 69 = .ok (.iconst (-1), 1) := by decide +kernel
theorem dX0_carryBack_70 : decode cX0_carryBack 70 = .ok (.istore 4, 2) := by decide +kernel
theorem dX0_carryBack_72 : decode cX0_carryBack 72 = .ok (.iload_n 2, 1) := by decide +kernel
theorem dX0_carryBack_73 : decode cX0_carryBack 73 = .ok (.istore 5, 2) := by decide +kernel
theorem dX0_carryBack_75 : decode cX0_carryBack 75 = .ok (.iload_n 1, 1) := by decide +kernel
theorem dX0_carryBack_76 : decode cX0_carryBack 76 = .ok (.aload_n 0, 1) := by decide +kernel
theorem dX0_carryBack_77 : decode cX0_carryBack 77 = .ok (.getfield 26, 3) := by decide +kernel
theorem dX0_carryBack_80 : decode cX0_carryBack 80 = .ok (.iconst 1, 1) := by decide +kernel
theorem dX0_carryBack_81 : decode cX0_carryBack 81 = .ok (.isub, 1) := by decide +kernel
theorem dX0_carryBack_82 : decode cX0_carryBack 82 = .ok (.if_icmp .ge 123, 3) := by decide +kernel
theorem dX0_carryBack_85 : decode cX0_carryBack 85 = .ok (.iload 5, 2) := by decide +kernel
theorem dX0_carryBack_87 : decode cX0_carryBack 87 = .ok (.iload_n 2, 1) := by decide +kernel
theorem dX0_carryBack_88 : decode cX0_carryBack 88 = .ok (.iconst 2, 1) := by decide +kernel
theorem dX0_carryBack_89 : decode cX0_carryBack 89 = .ok (.iadd, 1) := by decide +kernel
theorem dX0_carryBack_90 : decode cX0_carryBack 90 = .ok (.if_icmp .gt 115, 3) := by decide +kernel
theorem dX0_carryBack_93 : decode cX0_carryBack 93 = .ok (.iload 5, 2) := by decide +kernel
theorem dX0_carryBack_95 : decode cX0_carryBack 95 = .ok (.iconst 2, 1) := by decide +kernel
theorem dX0_carryBack_96 : decode cX0_carryBack 96 = .ok (.aload_n 0, 1) := by decide +kernel
theorem dX0_carryBack_97 : decode cX0_carryBack 97 = .ok (.getfield 37, 3) := by decide +kernel
theorem dX0_carryBack_100 : decode cX0_carryBack 100 = .ok (.imul, 1) := by decide +kernel
theorem dX0_carryBack_101 : decode cX0_carryBack 101 = .ok (.if_icmp .gt 104, 3) := by decide +kernel
theorem dX0_carryBack_104 : decode cX0_carryBack 104 = .ok (.aload_n 0, 1) := by decide +kernel
theorem dX0_carryBack_105 : decode cX0_carryBack 105 = .ok (.iload_n 2, 1) := by decide +kernel
theorem dX0_carryBack_106 : decode cX0_carryBack 106 = .ok (.iload 5, 2) := by decide +kernel
theorem dX0_carryBack_108 : decode cX0_carryBack 108 = .ok (.invokevirtual 48, 3) := by decide +kernel
theorem dX0_carryBack_111 : decode cX0_carryBack 111 = .ok (.ifCond .eq 88, 3) := by decide +kernel
theorem dX0_carryBack_114 : decode cX0_carryBack 114 = .ok (.iload_n 1, 1) := by decide +kernel
theorem dX0_carryBack_115 : decode cX0_carryBack 115 = .ok (.iconst 1, 1) := by decide +kernel
theorem dX0_carryBack_116 : decode cX0_carryBack 116 = .ok (.iadd, 1) := by decide +kernel
theorem dX0_carryBack_117 : decode cX0_carryBack 117 = .ok (.bipush 9, 2) := by decide +kernel
theorem dX0_carryBack_119 : decode cX0_carryBack 119 = .ok (.imul, 1) := by decide +kernel
theorem dX0_carryBack_120 : decode cX0_carryBack 120 = .ok (.iload 5, 2) := by decide +kernel
theorem dX0_carryBack_122 : decode cX0_carryBack 122 = .ok (.iadd, 1) := by decide +kernel
theorem dX0_carryBack_123 : decode cX0_carryBack 123 = .ok (.istore 6, 2) := by decide +kernel
theorem dX0_carryBack_125 : decode cX0_carryBack 125 = .ok (.aload_n 0, 1) := by decide +kernel
theorem dX0_carryBack_126 : decode cX0_carryBack 126 = .ok (.iload 5, 2) := by decide +kernel
theorem dX0_carryBack_128 : decode cX0_carryBack 128 = .ok (.invokevirtual 44, 3) := by decide +kernel
theorem dX0_carryBack_131 : decode cX0_carryBack 131 = .ok (.istore 7, 2) := by decide +kernel
theorem dX0_carryBack_133 : decode cX0_carryBack 133 = .ok (.aload_n 0, 1) := by decide +kernel
theorem dX0_carryBack_134 : decode cX0_carryBack 134 = .ok (.iload_n 1, 1) := by decide +kernel
theorem dX0_carryBack_135 : decode cX0_carryBack 135 = .ok (.iconst 1, 1) := by decide +kernel
theorem dX0_carryBack_136 : decode cX0_carryBack 136 = .ok (.iadd, 1) := by decide +kernel
theorem dX0_carryBack_137 : decode cX0_carryBack 137 = .ok (.iload 7, 2) := by decide +kernel
theorem dX0_carryBack_139 : decode cX0_carryBack 139 = .ok (.invokevirtual 52, 3) := by decide +kernel
theorem dX0_carryBack_142 : decode cX0_carryBack 142 = .ok (.istore 8, 2) := by decide +kernel
theorem dX0_carryBack_144 : decode cX0_carryBack 144 = .ok (.iload_n 3, 1) := by decide +kernel
theorem dX0_carryBack_145 : decode cX0_carryBack 145 = .ok (.iload 8, 2) := by decide +kernel
theorem dX0_carryBack_147 : decode cX0_carryBack 147 = .ok (.aload_n 0, 1) := by decide +kernel
theorem dX0_carryBack_148 : decode cX0_carryBack 148 = .ok (.getfield 20, 3) := by decide +kernel
theorem dX0_carryBack_151 : decode cX0_carryBack 151 = .ok (.iload 6, 2) := by decide +kernel
theorem dX0_carryBack_153 : decode cX0_carryBack 153 = .ok (.iaload, 1) := by decide +kernel
theorem dX0_carryBack_154 : decode cX0_carryBack 154 = .ok (.imul, 1) := by decide +kernel
theorem dX0_carryBack_155 : decode cX0_carryBack 155 = .ok (.iadd, 1) := by decide +kernel
theorem dX0_carryBack_156 : decode cX0_carryBack 156 = .ok (.istore_n 3, 1) := by decide +kernel
theorem dX0_carryBack_157 : decode cX0_carryBack 157 = .ok (.aload_n 0, 1) := by decide +kernel
theorem dX0_carryBack_158 : decode cX0_carryBack 158 = .ok (.getfield 23, 3) := by decide +kernel
theorem dX0_carryBack_161 : decode cX0_carryBack 161 = .ok (.iload 6, 2) := by decide +kernel
theorem dX0_carryBack_163 : decode cX0_carryBack 163 = .ok (.iaload, 1) := by decide +kernel
theorem dX0_carryBack_164 : decode cX0_carryBack 164 = .ok (.ifCond .lt 31, 3) := by decide +kernel
theorem dX0_carryBack_167 : decode cX0_carryBack 167 = .ok (.iload 8, 2) := by decide +kernel
theorem dX0_carryBack_169 : decode cX0_carryBack 169 = .ok (.aload_n 0, 1) := by decide +kernel
theorem dX0_carryBack_170 : decode cX0_carryBack 170 = .ok (.getfield 23, 3) := by decide +kernel
theorem dX0_carryBack_173 : decode cX0_carryBack 173 = .ok (.iload 6, 2) := by decide +kernel
theorem dX0_carryBack_175 : decode cX0_carryBack 175 = .ok (.iaload, 1) := by decide +kernel
theorem dX0_carryBack_176 : decode cX0_carryBack 176 = .ok (.imul, 1) := by decide +kernel
theorem dX0_carryBack_177 : decode cX0_carryBack 177 = .ok (.iload 4, 2) := by decide +kernel
theorem dX0_carryBack_179 : decode cX0_carryBack 179 = .ok (.if_icmp .le 16, 3) := by decide +kernel
theorem dX0_carryBack_182 : decode cX0_carryBack 182 = .ok (.iload 8, 2) := by decide +kernel
theorem dX0_carryBack_184 : decode cX0_carryBack 184 = .ok (.aload_n 0, 1) := by decide +kernel
theorem dX0_carryBack_185 : decode cX0_carryBack 185 = .ok (.getfield 23, 3) := by decide +kernel
theorem dX0_carryBack_188 : decode cX0_carryBack 188 = .ok (.iload 6, 2) := by decide +kernel
theorem dX0_carryBack_190 : decode cX0_carryBack 190 = .ok (.iaload, 1) := by decide +kernel
theorem dX0_carryBack_191 : decode cX0_carryBack 191 = .ok (.imul, 1) := by decide +kernel
theorem dX0_carryBack_192 : decode cX0_carryBack 192 = .ok (.goto 5, 3) := by decide +kernel
theorem dX0_carryBack_195 : decode cX0_carryBack 195 = .ok (.iload 4, 2) := by decide +kernel
theorem dX0_carryBack_197 : decode cX0_carryBack 197 = .ok (.istore 4, 2) := by decide +kernel
theorem dX0_carryBack_199 : decode cX0_carryBack 199 = .ok (.iinc 5 1, 3) := by decide +kernel
theorem dX0_carryBack_202 : decode cX0_carryBack 202 = .ok (.goto (-127), 3) := by decide +kernel
theorem dX0_carryBack_205 : decode cX0_carryBack 205 = .ok (.aload_n 0, 1) := by decide +kernel
theorem dX0_carryBack_206 : decode cX0_carryBack 206 = .ok (.getfield 20, 3) := by decide +kernel
theorem dX0_carryBack_209 : decode cX0_carryBack 209 = .ok (.iload_n 1, 1) := by decide +kernel
theorem dX0_carryBack_210 : decode cX0_carryBack 210 = .ok (.bipush 9, 2) := by decide +kernel
theorem dX0_carryBack_212 : decode cX0_carryBack 212 = .ok (.imul, 1) := by decide +kernel
theorem dX0_carryBack_213 : decode cX0_carryBack 213 = .ok (.iload_n 2, 1) := by decide +kernel
theorem dX0_carryBack_214 : decode cX0_carryBack 214 = .ok (.iadd, 1) := by decide +kernel
theorem dX0_carryBack_215 : decode cX0_carryBack 215 = .ok (.iload_n 3, 1) := by decide +kernel
theorem dX0_carryBack_216 : decode cX0_carryBack 216 = .ok (.iastore, 1) := by decide +kernel
theorem dX0_carryBack_217 : decode cX0_carryBack 217 = .ok (.aload_n 0, 1) := by decide +kernel
theorem dX0_carryBack_218 : decode cX0_carryBack 218 = .ok (.getfield 23, 3) := by decide +kernel
theorem dX0_carryBack_221 : decode cX0_carryBack 221 = .ok (.iload_n 1, 1) := by decide +kernel
theorem dX0_carryBack_222 : decode cX0_carryBack 222 = .ok (.bipush 9, 2) := by decide +kernel
theorem dX0_carryBack_224 : decode cX0_carryBack 224 = .ok (.imul, 1) := by decide +kernel
theorem dX0_carryBack_225 : decode cX0_carryBack 225 = .ok (.iload_n 2, 1) := by decide +kernel
theorem dX0_carryBack_226 : decode cX0_carryBack 226 = .ok (.iadd, 1) := by decide +kernel
theorem dX0_carryBack_227 : decode cX0_carryBack 227 = .ok (.iload 4, 2) := by decide +kernel
theorem dX0_carryBack_229 : decode cX0_carryBack 229 = .ok (.iastore, 1) := by decide +kernel
theorem dX0_carryBack_230 : decode cX0_carryBack 230 = .ok (.iinc 2 1, 3) := by decide +kernel
theorem dX0_carryBack_233 : decode cX0_carryBack 233 = .ok (.goto (-220), 3) := by decide +kernel
theorem dX0_carryBack_236 : decode cX0_carryBack 236 = .ok (.iinc 1 (-1), 3) := by decide +kernel
theorem dX0_carryBack_239 : decode cX0_carryBack 239 = .ok (.goto (-232), 3) := by decide +kernel
theorem dX0_carryBack_242 : decode cX0_carryBack 242 = .ok (.return_, 1) := by decide +kernel
abbrev cX0_bestFrom : ByteArray := prog_1_method_20_code
def yX0_bestFrom : MethodName := ⟨RX0, "bestFrom", "(I)I"⟩
theorem dX0_bestFrom_0 : decode cX0_bestFrom 0 = .ok (.aload_n 0, 1) := by decide +kernel
theorem dX0_bestFrom_1 : decode cX0_bestFrom 1 = .ok (.iload_n 1, 1) := by decide +kernel
theorem dX0_bestFrom_2 : decode cX0_bestFrom 2 = .ok (.invokevirtual 44, 3) := by decide +kernel
theorem dX0_bestFrom_5 : decode cX0_bestFrom 5 = .ok (.istore_n 2, 1) := by decide +kernel
theorem dX0_bestFrom_6 : decode cX0_bestFrom 6 = .ok (.aload_n 0, 1) := by decide +kernel
theorem dX0_bestFrom_7 : decode cX0_bestFrom 7 = .ok (.getfield 23, 3) := by decide +kernel
theorem dX0_bestFrom_10 : decode cX0_bestFrom 10 = .ok (.iload_n 1, 1) := by decide +kernel
theorem dX0_bestFrom_11 : decode cX0_bestFrom 11 = .ok (.iaload, 1) := by decide +kernel
theorem dX0_bestFrom_12 : decode cX0_bestFrom 12 = .ok (.ifCond .ge 7, 3) := by decide +kernel
theorem dX0_bestFrom_15 : decode cX0_bestFrom 15 = .ok (.iconst (-1), 1) := by decide +kernel
theorem dX0_bestFrom_16 : decode cX0_bestFrom 16 = .ok (.goto 16, 3) := by decide +kernel
theorem dX0_bestFrom_19 : decode cX0_bestFrom 19 = .ok (.aload_n 0, 1) := by decide +kernel
theorem dX0_bestFrom_20 : decode cX0_bestFrom 20 = .ok (.getfield 23, 3) := by decide +kernel
theorem dX0_bestFrom_23 : decode cX0_bestFrom 23 = .ok (.iload_n 1, 1) := by decide +kernel
theorem dX0_bestFrom_24 : decode cX0_bestFrom 24 = .ok (.iaload, 1) := by decide +kernel
theorem dX0_bestFrom_25 : decode cX0_bestFrom 25 = .ok (.aload_n 0, 1) := by decide +kernel
theorem dX0_bestFrom_26 : decode cX0_bestFrom 26 = .ok (.iconst 0, 1) := by decide +kernel
theorem dX0_bestFrom_27 : decode cX0_bestFrom 27 = .ok (.iload_n 2, 1) := by decide +kernel
theorem dX0_bestFrom_28 : decode cX0_bestFrom 28 = .ok (.invokevirtual 52, 3) := by decide +kernel
theorem dX0_bestFrom_31 : decode cX0_bestFrom 31 = .ok (.imul, 1) := by decide +kernel
theorem dX0_bestFrom_32 : decode cX0_bestFrom 32 = .ok (.ireturn, 1) := by decide +kernel
abbrev cX0_through : ByteArray := prog_1_method_23_code
def yX0_through : MethodName := ⟨RX0, "through", "(II)I"⟩
theorem dX0_through_0 : decode cX0_through 0 = .ok (.aload_n 0, 1) := by decide +kernel
theorem dX0_through_1 : decode cX0_through 1 = .ok (.iload_n 1, 1) := by decide +kernel
theorem dX0_through_2 : decode cX0_through 2 = .ok (.invokevirtual 30, 3) := by decide +kernel
theorem dX0_through_5 : decode cX0_through 5 = .ok (.ifCond .eq 10, 3) := by decide +kernel
theorem dX0_through_8 : decode cX0_through 8 = .ok (.iload_n 2, 1) := by decide +kernel
theorem dX0_through_9 : decode cX0_through 9 = .ok (.invokestatic 34, 3) := by decide +kernel
theorem dX0_through_12 : decode cX0_through 12 = .ok (.ifCond .ne 5, 3) := by decide +kernel
theorem dX0_through_15 : decode cX0_through 15 = .ok (.iconst (-1), 1) := by decide +kernel
theorem dX0_through_16 : decode cX0_through 16 = .ok (.ireturn, 1) := by decide +kernel
theorem dX0_through_17 : decode cX0_through 17 = .ok (.aload_n 0, 1) := by decide +kernel
theorem dX0_through_18 : decode cX0_through 18 = .ok (.iconst 0, 1) := by decide +kernel
theorem dX0_through_19 : decode cX0_through 19 = .ok (.putfield 40, 3) := by decide +kernel
theorem dX0_through_22 : decode cX0_through 22 = .ok (.aload_n 0, 1) := by decide +kernel
theorem dX0_through_23 : decode cX0_through 23 = .ok (.invokevirtual 59, 3) := by decide +kernel
theorem dX0_through_26 : decode cX0_through 26 = .ok (.aload_n 0, 1) := by decide +kernel
theorem dX0_through_27 : decode cX0_through 27 = .ok (.invokevirtual 66, 3) := by decide +kernel
theorem dX0_through_30 : decode cX0_through 30 = .ok (.iconst 0, 1) := by decide +kernel
theorem dX0_through_31 : decode cX0_through 31 = .ok (.istore_n 3, 1) := by decide +kernel
theorem dX0_through_32 : decode cX0_through 32 = .ok (.iconst 0, 1) := by decide +kernel
theorem dX0_through_33 : decode cX0_through 33 = .ok (.istore 4, 2) := by decide +kernel
theorem dX0_through_35 : decode cX0_through 35 = .ok (.iload 4, 2) := by decide +kernel
theorem dX0_through_37 : decode cX0_through 37 = .ok (.iconst 2, 1) := by decide +kernel
theorem dX0_through_38 : decode cX0_through 38 = .ok (.aload_n 0, 1) := by decide +kernel
theorem dX0_through_39 : decode cX0_through 39 = .ok (.getfield 37, 3) := by decide +kernel
theorem dX0_through_42 : decode cX0_through 42 = .ok (.imul, 1) := by decide +kernel
theorem dX0_through_43 : decode cX0_through 43 = .ok (.if_icmp .gt 51, 3) := by decide +kernel
theorem dX0_through_46 : decode cX0_through 46 = .ok (.iload_n 3, 1) := by decide +kernel
theorem dX0_through_47 : decode cX0_through 47 = .ok (.aload_n 0, 1) := by decide +kernel
theorem dX0_through_48 : decode cX0_through 48 = .ok (.iload 4, 2) := by decide +kernel
theorem dX0_through_50 : decode cX0_through 50 = .ok (.invokevirtual 44, 3) := by decide +kernel
theorem dX0_through_53 : decode cX0_through 53 = .ok (.iload_n 2, 1) := by decide +kernel
theorem dX0_through_54 : decode cX0_through 54 = .ok (.if_icmp .ne 31, 3) := by decide +kernel
theorem dX0_through_57 : decode cX0_through 57 = .ok (.aload_n 0, 1) := by decide +kernel
theorem dX0_through_58 : decode cX0_through 58 = .ok (.getfield 16, 3) := by decide +kernel
theorem dX0_through_61 : decode cX0_through 61 = .ok (.iload_n 1, 1) := by decide +kernel
theorem dX0_through_62 : decode cX0_through 62 = .ok (.bipush 9, 2) := by decide +kernel
theorem dX0_through_64 : decode cX0_through 64 = .ok (.imul, 1) := by decide +kernel
theorem dX0_through_65 : decode cX0_through 65 = .ok (.iload 4, 2) := by decide +kernel
theorem dX0_through_67 : decode cX0_through 67 = .ok (.iadd, 1) := by decide +kernel
theorem dX0_through_68 : decode cX0_through 68 = .ok (.iaload, 1) := by decide +kernel
theorem dX0_through_69 : decode cX0_through 69 = .ok (.aload_n 0, 1) := by decide +kernel
theorem dX0_through_70 : decode cX0_through 70 = .ok (.getfield 20, 3) := by decide +kernel
theorem dX0_through_73 : decode cX0_through 73 = .ok (.iload_n 1, 1) := by decide +kernel
theorem dX0_through_74 : decode cX0_through 74 = .ok (.bipush 9, 2) := by decide +kernel
theorem dX0_through_76 : decode cX0_through 76 = .ok (.imul, 1) := by decide +kernel
theorem dX0_through_77 : decode cX0_through 77 = .ok (.iload 4, 2) := by decide +kernel
theorem dX0_through_79 : decode cX0_through 79 = .ok (.iadd, 1) := by decide +kernel
theorem dX0_through_80 : decode cX0_through 80 = .ok (.iaload, 1) := by decide +kernel
theorem dX0_through_81 : decode cX0_through 81 = .ok (.imul, 1) := by decide +kernel
theorem dX0_through_82 : decode cX0_through 82 = .ok (.goto 4, 3) := by decide +kernel
theorem dX0_through_85 : decode cX0_through 85 = .ok (.iconst 0, 1) := by decide +kernel
theorem dX0_through_86 : decode cX0_through 86 = .ok (.iadd, 1) := by decide +kernel
theorem dX0_through_87 : decode cX0_through 87 = .ok (.istore_n 3, 1) := by decide +kernel
theorem dX0_through_88 : decode cX0_through 88 = .ok (.iinc 4 1, 3) := by decide +kernel
theorem dX0_through_91 : decode cX0_through 91 = .ok (.goto (-56), 3) := by decide +kernel
theorem dX0_through_94 : decode cX0_through 94 = .ok (.iload_n 3, 1) := by decide +kernel
theorem dX0_through_95 : decode cX0_through 95 = .ok (.ireturn, 1) := by decide +kernel
abbrev cX0_prefix : ByteArray := prog_1_method_25_code
def yX0_prefix : MethodName := ⟨RX0, "prefix", "()I"⟩
theorem dX0_prefix_0 : decode cX0_prefix 0 = .ok (.aload_n 0, 1) := by decide +kernel
theorem dX0_prefix_1 : decode cX0_prefix 1 = .ok (.getfield 37, 3) := by decide +kernel
theorem dX0_prefix_4 : decode cX0_prefix 4 = .ok (.ifCond .ne 8, 3) := by decide +kernel
theorem dX0_prefix_7 : decode cX0_prefix 7 = .ok (.aload_n 0, 1) := by decide +kernel
theorem dX0_prefix_8 : decode cX0_prefix 8 = .ok (.invokevirtual 75, 3) := by decide +kernel
theorem dX0_prefix_11 : decode cX0_prefix 11 = .ok (.ireturn, 1) := by decide +kernel
theorem dX0_prefix_12 : decode cX0_prefix 12 = .ok (.aload_n 0, 1) := by decide +kernel
theorem dX0_prefix_13 : decode cX0_prefix 13 = .ok (.iconst 0, 1) := by decide +kernel
theorem dX0_prefix_14 : decode cX0_prefix 14 = .ok (.putfield 40, 3) := by decide +kernel
theorem dX0_prefix_17 : decode cX0_prefix 17 = .ok (.aload_n 0, 1) := by decide +kernel
theorem dX0_prefix_18 : decode cX0_prefix 18 = .ok (.invokevirtual 59, 3) := by decide +kernel
theorem dX0_prefix_21 : decode cX0_prefix 21 = .ok (.iconst 2, 1) := by decide +kernel
theorem dX0_prefix_22 : decode cX0_prefix 22 = .ok (.aload_n 0, 1) := by decide +kernel
theorem dX0_prefix_23 : decode cX0_prefix 23 = .ok (.getfield 37, 3) := by decide +kernel
theorem dX0_prefix_26 : decode cX0_prefix 26 = .ok (.imul, 1) := by decide +kernel
theorem dX0_prefix_27 : decode cX0_prefix 27 = .ok (.iconst 1, 1) := by decide +kernel
theorem dX0_prefix_28 : decode cX0_prefix 28 = .ok (.isub, 1) := by decide +kernel
theorem dX0_prefix_29 : decode cX0_prefix 29 = .ok (.istore_n 1, 1) := by decide +kernel
theorem dX0_prefix_30 : decode cX0_prefix 30 = .ok (.aload_n 0, 1) := by decide +kernel
theorem dX0_prefix_31 : decode cX0_prefix 31 = .ok (.iload_n 1, 1) := by decide +kernel
theorem dX0_prefix_32 : decode cX0_prefix 32 = .ok (.invokevirtual 44, 3) := by decide +kernel
theorem dX0_prefix_35 : decode cX0_prefix 35 = .ok (.istore_n 2, 1) := by decide +kernel
theorem dX0_prefix_36 : decode cX0_prefix 36 = .ok (.iconst 0, 1) := by decide +kernel
theorem dX0_prefix_37 : decode cX0_prefix 37 = .ok (.istore_n 3, 1) := by decide +kernel
theorem dX0_prefix_38 : decode cX0_prefix 38 = .ok (.iconst 0, 1) := by decide +kernel
theorem dX0_prefix_39 : decode cX0_prefix 39 = .ok (.istore 4, 2) := by decide +kernel
theorem dX0_prefix_41 : decode cX0_prefix 41 = .ok (.iload 4, 2) := by decide +kernel
theorem dX0_prefix_43 : decode cX0_prefix 43 = .ok (.aload_n 0, 1) := by decide +kernel
theorem dX0_prefix_44 : decode cX0_prefix 44 = .ok (.getfield 26, 3) := by decide +kernel
theorem dX0_prefix_47 : decode cX0_prefix 47 = .ok (.if_icmp .ge 148, 3) := by decide +kernel
theorem dX0_prefix_50 : decode cX0_prefix 50 = .ok (.iload 4, 2) := by decide +kernel
theorem dX0_prefix_52 : decode cX0_prefix 52 = .ok (.ifCond .ne 12, 3) := by decide +kernel
theorem dX0_prefix_55 : decode cX0_prefix 55 = .ok (.iload_n 1, 1) := by decide +kernel
theorem dX0_prefix_56 : decode cX0_prefix 56 = .ok (.iconst 1, 1) := by decide +kernel
theorem dX0_prefix_57 : decode cX0_prefix 57 = .ok (.if_icmp .ne 7, 3) := by decide +kernel
theorem dX0_prefix_60 : decode cX0_prefix 60 = .ok (.iconst 1, 1) := by decide +kernel
theorem dX0_prefix_61 : decode cX0_prefix 61 = .ok (.goto 4, 3) := by decide +kernel
theorem dX0_prefix_64 : decode cX0_prefix 64 = .ok (.iconst 0, 1) := by decide +kernel
theorem dX0_prefix_65 : decode cX0_prefix 65 = .ok (.istore 5, 2) := by decide +kernel
theorem dX0_prefix_67 : decode cX0_prefix 67 = .ok (.iload_n 1, 1) := by decide +kernel
theorem dX0_prefix_68 : decode cX0_prefix 68 = .ok (.iconst 2, 1) := by decide +kernel
theorem dX0_prefix_69 : decode cX0_prefix 69 = .ok (.isub, 1) := by decide +kernel
theorem dX0_prefix_70 : decode cX0_prefix 70 = .ok (.istore 6, 2) := by decide +kernel
theorem dX0_prefix_72 : decode cX0_prefix 72 = .ok (.iload 6, 2) := by decide +kernel
theorem dX0_prefix_74 : decode cX0_prefix 74 = .ok (.iload_n 1, 1) := by decide +kernel
theorem dX0_prefix_75 : decode cX0_prefix 75 = .ok (.if_icmp .ge 65, 3) := by decide +kernel
theorem dX0_prefix_78 : decode cX0_prefix 78 = .ok (.iload 4, 2) := by decide +kernel
theorem dX0_prefix_80 : decode cX0_prefix 80 = .ok (.ifCond .le 22, 3) := by decide +kernel
theorem dX0_prefix_83 : decode cX0_prefix 83 = .ok (.iload 6, 2) := by decide +kernel
theorem dX0_prefix_85 : decode cX0_prefix 85 = .ok (.ifCond .lt 17, 3) := by decide +kernel
theorem dX0_prefix_88 : decode cX0_prefix 88 = .ok (.aload_n 0, 1) := by decide +kernel
theorem dX0_prefix_89 : decode cX0_prefix 89 = .ok (.iload 6, 2) := by decide +kernel
theorem dX0_prefix_91 : decode cX0_prefix 91 = .ok (.iload_n 1, 1) := by decide +kernel
theorem dX0_prefix_92 : decode cX0_prefix 92 = .ok (.invokevirtual 48, 3) := by decide +kernel
theorem dX0_prefix_95 : decode cX0_prefix 95 = .ok (.ifCond .eq 7, 3) := by decide +kernel
theorem dX0_prefix_98 : decode cX0_prefix 98 = .ok (.iconst 1, 1) := by decide +kernel
theorem dX0_prefix_99 : decode cX0_prefix 99 = .ok (.goto 4, 3) := by decide +kernel
theorem dX0_prefix_102 : decode cX0_prefix 102 = .ok (.iconst 0, 1) := by decide +kernel
theorem dX0_prefix_103 : decode cX0_prefix 103 = .ok (.istore 7, 2) := by decide +kernel
theorem dX0_prefix_105 : decode cX0_prefix 105 = .ok (.iload 5, 2) := by decide +kernel
theorem dX0_prefix_107 : decode cX0_prefix 107 = .ok (.iload 7, 2) := by decide +kernel
theorem dX0_prefix_109 : decode cX0_prefix 109 = .ok (.ifCond .eq 21, 3) := by decide +kernel
theorem dX0_prefix_112 : decode cX0_prefix 112 = .ok (.aload_n 0, 1) := by decide +kernel
theorem dX0_prefix_113 : decode cX0_prefix 113 = .ok (.getfield 16, 3) := by decide +kernel
theorem dX0_prefix_116 : decode cX0_prefix 116 = .ok (.iload 4, 2) := by decide +kernel
theorem dX0_prefix_118 : decode cX0_prefix 118 = .ok (.iconst 1, 1) := by decide +kernel
theorem dX0_prefix_119 : decode cX0_prefix 119 = .ok (.isub, 1) := by decide +kernel
theorem dX0_prefix_120 : decode cX0_prefix 120 = .ok (.bipush 9, 2) := by decide +kernel
theorem dX0_prefix_122 : decode cX0_prefix 122 = .ok (.imul, 1) := by decide +kernel
theorem dX0_prefix_123 : decode cX0_prefix 123 = .ok (.iload 6, 2) := by decide +kernel
theorem dX0_prefix_125 : decode cX0_prefix 125 = .ok (.iadd, 1) := by decide +kernel
theorem dX0_prefix_126 : decode cX0_prefix 126 = .ok (.iaload, 1) := by decide +kernel
theorem dX0_prefix_127 : decode cX0_prefix 127 = .ok (.goto 4, 3) := by decide +kernel
theorem dX0_prefix_130 : decode cX0_prefix 130 = .ok (.iconst 0, 1) := by decide +kernel
theorem dX0_prefix_131 : decode cX0_prefix 131 = .ok (.iadd, 1) := by decide +kernel
theorem dX0_prefix_132 : decode cX0_prefix 132 = .ok (.istore 5, 2) := by decide +kernel
theorem dX0_prefix_134 : decode cX0_prefix 134 = .ok (.iinc 6 1, 3) := by decide +kernel
theorem dX0_prefix_137 : decode cX0_prefix 137 = .ok (.goto (-65), 3) := by decide +kernel
theorem dX0_prefix_140 : decode cX0_prefix 140 = .ok (.iload 5, 2) := by decide +kernel
theorem dX0_prefix_142 : decode cX0_prefix 142 = .ok (.aload_n 0, 1) := by decide +kernel
theorem dX0_prefix_143 : decode cX0_prefix 143 = .ok (.iload 4, 2) := by decide +kernel
theorem dX0_prefix_145 : decode cX0_prefix 145 = .ok (.iload_n 2, 1) := by decide +kernel
theorem dX0_prefix_146 : decode cX0_prefix 146 = .ok (.invokevirtual 52, 3) := by decide +kernel
theorem dX0_prefix_149 : decode cX0_prefix 149 = .ok (.imul, 1) := by decide +kernel
theorem dX0_prefix_150 : decode cX0_prefix 150 = .ok (.istore 6, 2) := by decide +kernel
theorem dX0_prefix_152 : decode cX0_prefix 152 = .ok (.iload 4, 2) := by decide +kernel
theorem dX0_prefix_154 : decode cX0_prefix 154 = .ok (.iconst 1, 1) := by decide +kernel
theorem dX0_prefix_155 : decode cX0_prefix 155 = .ok (.iadd, 1) := by decide +kernel
theorem dX0_prefix_156 : decode cX0_prefix 156 = .ok (.istore 7, 2) := by decide +kernel
theorem dX0_prefix_158 : decode cX0_prefix 158 = .ok (.iload 7, 2) := by decide +kernel
theorem dX0_prefix_160 : decode cX0_prefix 160 = .ok (.aload_n 0, 1) := by decide +kernel
theorem dX0_prefix_161 : decode cX0_prefix 161 = .ok (.getfield 26, 3) := by decide +kernel
theorem dX0_prefix_164 : decode cX0_prefix 164 = .ok (.if_icmp .ge 20, 3) := by decide +kernel
theorem dX0_prefix_167 : decode cX0_prefix 167 = .ok (.iload 6, 2) := by decide +kernel
theorem dX0_prefix_169 : decode cX0_prefix 169 = .ok (.aload_n 0, 1) := by decide +kernel
theorem dX0_prefix_170 : decode cX0_prefix 170 = .ok (.iload 7, 2) := by decide +kernel
theorem dX0_prefix_172 : decode cX0_prefix 172 = .ok (.invokevirtual 78, 3) := by decide +kernel
theorem dX0_prefix_175 : decode cX0_prefix 175 = .ok (.imul, 1) := by decide +kernel
theorem dX0_prefix_176 : decode cX0_prefix 176 = .ok (.istore 6, 2) := by decide +kernel
theorem dX0_prefix_178 : decode cX0_prefix 178 = .ok (.iinc 7 1, 3) := by decide +kernel
theorem dX0_prefix_181 : decode cX0_prefix 181 = .ok (.goto (-23), 3) := by decide +kernel
theorem dX0_prefix_184 : decode cX0_prefix 184 = .ok (.iload_n 3, 1) := by decide +kernel
theorem dX0_prefix_185 : decode cX0_prefix 185 = .ok (.iload 6, 2) := by decide +kernel
theorem dX0_prefix_187 : decode cX0_prefix 187 = .ok (.iadd, 1) := by decide +kernel
theorem dX0_prefix_188 : decode cX0_prefix 188 = .ok (.istore_n 3, 1) := by decide +kernel
theorem dX0_prefix_189 : decode cX0_prefix 189 = .ok (.iinc 4 1, 3) := by decide +kernel
theorem dX0_prefix_192 : decode cX0_prefix 192 = .ok (.goto (-151), 3) := by decide +kernel
theorem dX0_prefix_195 : decode cX0_prefix 195 = .ok (.iload_n 3, 1) := by decide +kernel
theorem dX0_prefix_196 : decode cX0_prefix 196 = .ok (.ireturn, 1) := by decide +kernel
abbrev cX0_everything : ByteArray := prog_1_method_26_code
def yX0_everything : MethodName := ⟨RX0, "everything", "()I"⟩
theorem dX0_everything_0 : decode cX0_everything 0 = .ok (.iconst 1, 1) := by decide +kernel
theorem dX0_everything_1 : decode cX0_everything 1 = .ok (.istore_n 1, 1) := by decide +kernel
theorem dX0_everything_2 : decode cX0_everything 2 = .ok (.iconst 0, 1) := by decide +kernel
theorem dX0_everything_3 : decode cX0_everything 3 = .ok (.istore_n 2, 1) := by decide +kernel
theorem dX0_everything_4 : decode cX0_everything 4 = .ok (.iload_n 2, 1) := by decide +kernel
theorem dX0_everything_5 : decode cX0_everything 5 = .ok (.aload_n 0, 1) := by decide +kernel
theorem dX0_everything_6 : decode cX0_everything 6 = .ok (.getfield 26, 3) := by decide +kernel
theorem dX0_everything_9 : decode cX0_everything 9 = .ok (.if_icmp .ge 17, 3) := by decide +kernel
theorem dX0_everything_12 : decode cX0_everything 12 = .ok (.iload_n 1, 1) := by decide +kernel
theorem dX0_everything_13 : decode cX0_everything 13 = .ok (.aload_n 0, 1) := by decide +kernel
theorem dX0_everything_14 : decode cX0_everything 14 = .ok (.iload_n 2, 1) := by decide +kernel
theorem dX0_everything_15 : decode cX0_everything 15 = .ok (.invokevirtual 78, 3) := by decide +kernel
theorem dX0_everything_18 : decode cX0_everything 18 = .ok (.imul, 1) := by decide +kernel
theorem dX0_everything_19 : decode cX0_everything 19 = .ok (.istore_n 1, 1) := by decide +kernel
theorem dX0_everything_20 : decode cX0_everything 20 = .ok (.iinc 2 1, 3) := by decide +kernel
theorem dX0_everything_23 : decode cX0_everything 23 = .ok (.goto (-19), 3) := by decide +kernel
theorem dX0_everything_26 : decode cX0_everything 26 = .ok (.iload_n 1, 1) := by decide +kernel
theorem dX0_everything_27 : decode cX0_everything 27 = .ok (.ireturn, 1) := by decide +kernel
abbrev cX0_frameSum : ByteArray := prog_1_method_24_code
def yX0_frameSum : MethodName := ⟨RX0, "frameSum", "(I)I"⟩
theorem dX0_frameSum_0 : decode cX0_frameSum 0 = .ok (.iconst 0, 1) := by decide +kernel
theorem dX0_frameSum_1 : decode cX0_frameSum 1 = .ok (.istore_n 2, 1) := by decide +kernel
theorem dX0_frameSum_2 : decode cX0_frameSum 2 = .ok (.iconst 0, 1) := by decide +kernel
theorem dX0_frameSum_3 : decode cX0_frameSum 3 = .ok (.istore_n 3, 1) := by decide +kernel
theorem dX0_frameSum_4 : decode cX0_frameSum 4 = .ok (.iload_n 3, 1) := by decide +kernel
theorem dX0_frameSum_5 : decode cX0_frameSum 5 = .ok (.iconst 4, 1) := by decide +kernel
theorem dX0_frameSum_6 : decode cX0_frameSum 6 = .ok (.if_icmp .ge 22, 3) := by decide +kernel
theorem dX0_frameSum_9 : decode cX0_frameSum 9 = .ok (.iload_n 2, 1) := by decide +kernel
theorem dX0_frameSum_10 : decode cX0_frameSum 10 = .ok (.aload_n 0, 1) := by decide +kernel
theorem dX0_frameSum_11 : decode cX0_frameSum 11 = .ok (.getfield 7, 3) := by decide +kernel
theorem dX0_frameSum_14 : decode cX0_frameSum 14 = .ok (.iload_n 1, 1) := by decide +kernel
theorem dX0_frameSum_15 : decode cX0_frameSum 15 = .ok (.iconst 4, 1) := by decide +kernel
theorem dX0_frameSum_16 : decode cX0_frameSum 16 = .ok (.imul, 1) := by decide +kernel
theorem dX0_frameSum_17 : decode cX0_frameSum 17 = .ok (.iload_n 3, 1) := by decide +kernel
theorem dX0_frameSum_18 : decode cX0_frameSum 18 = .ok (.iadd, 1) := by decide +kernel
theorem dX0_frameSum_19 : decode cX0_frameSum 19 = .ok (.baload, 1) := by decide +kernel
theorem dX0_frameSum_20 : decode cX0_frameSum 20 = .ok (.iadd, 1) := by decide +kernel
theorem dX0_frameSum_21 : decode cX0_frameSum 21 = .ok (.istore_n 2, 1) := by decide +kernel
theorem dX0_frameSum_22 : decode cX0_frameSum 22 = .ok (.iinc 3 1, 3) := by decide +kernel
theorem dX0_frameSum_25 : decode cX0_frameSum 25 = .ok (.goto (-21), 3) := by decide +kernel
theorem dX0_frameSum_28 : decode cX0_frameSum 28 = .ok (.iload_n 2, 1) := by decide +kernel
theorem dX0_frameSum_29 : decode cX0_frameSum 29 = .ok (.ireturn, 1) := by decide +kernel
abbrev cX0_bestNext : ByteArray := prog_1_method_27_code
def yX0_bestNext : MethodName := ⟨RX0, "bestNext", "()I"⟩
theorem dX0_bestNext_0 : decode cX0_bestNext 0 = .ok (.iconst 0, 1) := by decide +kernel
theorem dX0_bestNext_1 : decode cX0_bestNext 1 = .ok (.istore_n 1, 1) := by decide +kernel
theorem dX0_bestNext_2 : decode cX0_bestNext 2 = .ok (.iconst 0, 1) := by decide +kernel
theorem dX0_bestNext_3 : decode cX0_bestNext 3 = .ok (.istore_n 2, 1) := by decide +kernel
theorem dX0_bestNext_4 : decode cX0_bestNext 4 = .ok (.iconst 1, 1) := by decide +kernel
theorem dX0_bestNext_5 : decode cX0_bestNext 5 = .ok (.istore_n 3, 1) := by decide +kernel
theorem dX0_bestNext_6 : decode cX0_bestNext 6 = .ok (.iload_n 3, 1) := by decide +kernel
theorem dX0_bestNext_7 : decode cX0_bestNext 7 = .ok (.iconst 4, 1) := by decide +kernel
theorem dX0_bestNext_8 : decode cX0_bestNext 8 = .ok (.if_icmp .ge 45, 3) := by decide +kernel
theorem dX0_bestNext_11 : decode cX0_bestNext 11 = .ok (.aload_n 0, 1) := by decide +kernel
theorem dX0_bestNext_12 : decode cX0_bestNext 12 = .ok (.getfield 37, 3) := by decide +kernel
theorem dX0_bestNext_15 : decode cX0_bestNext 15 = .ok (.iconst 4, 1) := by decide +kernel
theorem dX0_bestNext_16 : decode cX0_bestNext 16 = .ok (.if_icmp .ge 37, 3) := by decide +kernel
theorem dX0_bestNext_19 : decode cX0_bestNext 19 = .ok (.aload_n 0, 1) := by decide +kernel
theorem dX0_bestNext_20 : decode cX0_bestNext 20 = .ok (.iload_n 3, 1) := by decide +kernel
theorem dX0_bestNext_21 : decode cX0_bestNext 21 = .ok (.invokevirtual 81, 3) := by decide +kernel
theorem dX0_bestNext_24 : decode cX0_bestNext 24 = .ok (.pop, 1) := by decide +kernel
theorem dX0_bestNext_25 : decode cX0_bestNext 25 = .ok (.aload_n 0, 1) := by decide +kernel
theorem dX0_bestNext_26 : decode cX0_bestNext 26 = .ok (.invokevirtual 84, 3) := by decide +kernel
theorem dX0_bestNext_29 : decode cX0_bestNext 29 = .ok (.istore 4, 2) := by decide +kernel
theorem dX0_bestNext_31 : decode cX0_bestNext 31 = .ok (.aload_n 0, 1) := by decide +kernel
theorem dX0_bestNext_32 : decode cX0_bestNext 32 = .ok (.invokevirtual 87, 3) := by decide +kernel
theorem dX0_bestNext_35 : decode cX0_bestNext 35 = .ok (.pop, 1) := by decide +kernel
theorem dX0_bestNext_36 : decode cX0_bestNext 36 = .ok (.iload 4, 2) := by decide +kernel
theorem dX0_bestNext_38 : decode cX0_bestNext 38 = .ok (.iload_n 2, 1) := by decide +kernel
theorem dX0_bestNext_39 : decode cX0_bestNext 39 = .ok (.if_icmp .le 8, 3) := by decide +kernel
theorem dX0_bestNext_42 : decode cX0_bestNext 42 = .ok (.iload 4, 2) := by decide +kernel
theorem dX0_bestNext_44 : decode cX0_bestNext 44 = .ok (.istore_n 2, 1) := by decide +kernel
theorem dX0_bestNext_45 : decode cX0_bestNext 45 = .ok (.iload_n 3, 1) := by decide +kernel
theorem dX0_bestNext_46 : decode cX0_bestNext 46 = .ok (.istore_n 1, 1) := by decide +kernel
theorem dX0_bestNext_47 : decode cX0_bestNext 47 = .ok (.iinc 3 1, 3) := by decide +kernel
theorem dX0_bestNext_50 : decode cX0_bestNext 50 = .ok (.goto (-44), 3) := by decide +kernel
theorem dX0_bestNext_53 : decode cX0_bestNext 53 = .ok (.iload_n 1, 1) := by decide +kernel
theorem dX0_bestNext_54 : decode cX0_bestNext 54 = .ok (.ireturn, 1) := by decide +kernel
abbrev cX0_bestAt : ByteArray := prog_1_method_28_code
def yX0_bestAt : MethodName := ⟨RX0, "bestAt", "(I)I"⟩
theorem dX0_bestAt_0 : decode cX0_bestAt 0 = .ok (.aload_n 0, 1) := by decide +kernel
theorem dX0_bestAt_1 : decode cX0_bestAt 1 = .ok (.iload_n 1, 1) := by decide +kernel
theorem dX0_bestAt_2 : decode cX0_bestAt 2 = .ok (.invokevirtual 30, 3) := by decide +kernel
theorem dX0_bestAt_5 : decode cX0_bestAt 5 = .ok (.ifCond .ne 5, 3) := by decide +kernel
theorem dX0_bestAt_8 : decode cX0_bestAt 8 = .ok (.iconst (-1), 1) := by decide +kernel
theorem dX0_bestAt_9 : decode cX0_bestAt 9 = .ok (.ireturn, 1) := by decide +kernel
theorem dX0_bestAt_10 : decode cX0_bestAt 10 = .ok (.aload_n 0, 1) := by decide +kernel
theorem dX0_bestAt_11 : decode cX0_bestAt 11 = .ok (.invokevirtual 72, 3) := by decide +kernel
theorem dX0_bestAt_14 : decode cX0_bestAt 14 = .ok (.istore_n 2, 1) := by decide +kernel
theorem dX0_bestAt_15 : decode cX0_bestAt 15 = .ok (.iload_n 2, 1) := by decide +kernel
theorem dX0_bestAt_16 : decode cX0_bestAt 16 = .ok (.ifCond .ge 5, 3) := by decide +kernel
theorem dX0_bestAt_19 : decode cX0_bestAt 19 = .ok (.iconst (-1), 1) := by decide +kernel
theorem dX0_bestAt_20 : decode cX0_bestAt 20 = .ok (.ireturn, 1) := by decide +kernel
theorem dX0_bestAt_21 : decode cX0_bestAt 21 = .ok (.iconst 1, 1) := by decide +kernel
theorem dX0_bestAt_22 : decode cX0_bestAt 22 = .ok (.istore_n 3, 1) := by decide +kernel
theorem dX0_bestAt_23 : decode cX0_bestAt 23 = .ok (.iconst (-1), 1) := by decide +kernel
theorem dX0_bestAt_24 : decode cX0_bestAt 24 = .ok (.istore 4, 2) := by decide +kernel
theorem dX0_bestAt_26 : decode cX0_bestAt 26 = .ok (.iconst 0, 1) := by decide +kernel
theorem dX0_bestAt_27 : decode cX0_bestAt 27 = .ok (.istore 5, 2) := by decide +kernel
theorem dX0_bestAt_29 : decode cX0_bestAt 29 = .ok (.iload 5, 2) := by decide +kernel
theorem dX0_bestAt_31 : decode cX0_bestAt 31 = .ok (.iload_n 1, 1) := by decide +kernel
theorem dX0_bestAt_32 : decode cX0_bestAt 32 = .ok (.if_icmp .gt 171, 3) := by decide +kernel
theorem dX0_bestAt_35 : decode cX0_bestAt 35 = .ok (.iconst (-1), 1) := by decide +kernel
theorem dX0_bestAt_36 : decode cX0_bestAt 36 = .ok (.istore 6, 2) := by decide +kernel
theorem dX0_bestAt_38 : decode cX0_bestAt 38 = .ok (.iconst 0, 1) := by decide +kernel
theorem dX0_bestAt_39 : decode cX0_bestAt 39 = .ok (.istore 7, 2) := by decide +kernel
theorem dX0_bestAt_41 : decode cX0_bestAt 41 = .ok (.iload 7, 2) := by decide +kernel
theorem dX0_bestAt_43 : decode cX0_bestAt 43 = .ok (.iconst 2, 1) := by decide +kernel
theorem dX0_bestAt_44 : decode cX0_bestAt 44 = .ok (.aload_n 0, 1) := by decide +kernel
theorem dX0_bestAt_45 : decode cX0_bestAt 45 = .ok (.getfield 37, 3) := by decide +kernel
theorem dX0_bestAt_48 : decode cX0_bestAt 48 = .ok (.imul, 1) := by decide +kernel
theorem dX0_bestAt_49 : decode cX0_bestAt 49 = .ok (.if_icmp .gt 125, 3) := by decide +kernel
theorem dX0_bestAt_52 : decode cX0_bestAt 52 = .ok (.iload 4, 2) := by decide +kernel
theorem dX0_bestAt_54 : decode cX0_bestAt 54 = .ok (.ifCond .ge 17, 3) := by decide +kernel
theorem dX0_bestAt_57 : decode cX0_bestAt 57 = .ok (.iload 7, 2) := by decide +kernel
theorem dX0_bestAt_59 : decode cX0_bestAt 59 = .ok (.iconst 1, 1) := by decide +kernel
theorem dX0_bestAt_60 : decode cX0_bestAt 60 = .ok (.if_icmp .gt 7, 3) := by decide +kernel
theorem dX0_bestAt_63 : decode cX0_bestAt 63 = .ok (.iconst 1, 1) := by decide +kernel
theorem dX0_bestAt_64 : decode cX0_bestAt 64 = .ok (.goto 15, 3) := by decide +kernel
theorem dX0_bestAt_67 : decode cX0_bestAt 67 = .ok (.iconst 0, 1) := by decide +kernel
theorem dX0_bestAt_68 : decode cX0_bestAt 68 = .ok (.goto 11, 3) := by decide +kernel
theorem dX0_bestAt_71 : decode cX0_bestAt 71 = .ok (.aload_n 0, 1) := by decide +kernel
theorem dX0_bestAt_72 : decode cX0_bestAt 72 = .ok (.iload 4, 2) := by decide +kernel
theorem dX0_bestAt_74 : decode cX0_bestAt 74 = .ok (.iload 7, 2) := by decide +kernel
theorem dX0_bestAt_76 : decode cX0_bestAt 76 = .ok (.invokevirtual 48, 3) := by decide +kernel
theorem dX0_bestAt_79 : decode cX0_bestAt 79 = .ok (.istore 8, 2) := by decide +kernel
theorem dX0_bestAt_81 : decode cX0_bestAt 81 = .ok (.aload_n 0, 1) := by decide +kernel
theorem dX0_bestAt_82 : decode cX0_bestAt 82 = .ok (.iload 7, 2) := by decide +kernel
theorem dX0_bestAt_84 : decode cX0_bestAt 84 = .ok (.invokevirtual 44, 3) := by decide +kernel
theorem dX0_bestAt_87 : decode cX0_bestAt 87 = .ok (.istore 9, 2) := by decide +kernel
theorem dX0_bestAt_89 : decode cX0_bestAt 89 = .ok (.aload_n 0, 1) := by decide +kernel
theorem dX0_bestAt_90 : decode cX0_bestAt 90 = .ok (.getfield 23, 3) := by decide +kernel
theorem dX0_bestAt_93 : decode cX0_bestAt 93 = .ok (.iload 5, 2) := by decide +kernel
theorem dX0_bestAt_95 : decode cX0_bestAt 95 = .ok (.bipush 9, 2) := by decide +kernel
theorem dX0_bestAt_97 : decode cX0_bestAt 97 = .ok (.imul, 1) := by decide +kernel
theorem dX0_bestAt_98 : decode cX0_bestAt 98 = .ok (.iload 7, 2) := by decide +kernel
theorem dX0_bestAt_100 : decode cX0_bestAt 100 = .ok (.iadd, 1) := by decide +kernel
theorem dX0_bestAt_101 : decode cX0_bestAt 101 = .ok (.iaload, 1) := by decide +kernel
theorem dX0_bestAt_102 : decode cX0_bestAt 102 = .ok (.istore 10, 2) := by decide +kernel
theorem dX0_bestAt_104 : decode cX0_bestAt 104 = .ok (.iload 8, 2) := by decide +kernel
theorem dX0_bestAt_106 : decode cX0_bestAt 106 = .ok (.ifCond .eq 29, 3) := by decide +kernel
theorem dX0_bestAt_109 : decode cX0_bestAt 109 = .ok (.iload 10, 2) := by decide +kernel
theorem dX0_bestAt_111 : decode cX0_bestAt 111 = .ok (.ifCond .lt 24, 3) := by decide +kernel
theorem dX0_bestAt_114 : decode cX0_bestAt 114 = .ok (.iload_n 3, 1) := by decide +kernel
theorem dX0_bestAt_115 : decode cX0_bestAt 115 = .ok (.aload_n 0, 1) := by decide +kernel
theorem dX0_bestAt_116 : decode cX0_bestAt 116 = .ok (.iload 5, 2) := by decide +kernel
theorem dX0_bestAt_118 : decode cX0_bestAt 118 = .ok (.iload 9, 2) := by decide +kernel
theorem dX0_bestAt_120 : decode cX0_bestAt 120 = .ok (.invokevirtual 52, 3) := by decide +kernel
theorem dX0_bestAt_123 : decode cX0_bestAt 123 = .ok (.imul, 1) := by decide +kernel
theorem dX0_bestAt_124 : decode cX0_bestAt 124 = .ok (.iload 10, 2) := by decide +kernel
theorem dX0_bestAt_126 : decode cX0_bestAt 126 = .ok (.imul, 1) := by decide +kernel
theorem dX0_bestAt_127 : decode cX0_bestAt 127 = .ok (.iload_n 2, 1) := by decide +kernel
theorem dX0_bestAt_128 : decode cX0_bestAt 128 = .ok (.if_icmp .ne 7, 3) := by decide +kernel
theorem dX0_bestAt_131 : decode cX0_bestAt 131 = .ok (.iconst 1, 1) := by decide +kernel
theorem dX0_bestAt_132 : decode cX0_bestAt 132 = .ok (.goto 4, 3) := by decide +kernel
theorem dX0_bestAt_135 : decode cX0_bestAt 135 = .ok (.iconst 0, 1) := by decide +kernel
theorem dX0_bestAt_136 : decode cX0_bestAt 136 = .ok (.istore 11, 2) := by decide +kernel
theorem dX0_bestAt_138 : decode cX0_bestAt 138 = .ok (.iload 11, 2) := by decide +kernel
theorem dX0_bestAt_140 : decode cX0_bestAt 140 = .ok (.ifCond .eq 24, 3) := by decide +kernel
theorem dX0_bestAt_143 : decode cX0_bestAt 143 = .ok (.iload 6, 2) := by decide +kernel
theorem dX0_bestAt_145 : decode cX0_bestAt 145 = .ok (.ifCond .lt 14, 3) := by decide +kernel
theorem dX0_bestAt_148 : decode cX0_bestAt 148 = .ok (.iload 9, 2) := by decide +kernel
theorem dX0_bestAt_150 : decode cX0_bestAt 150 = .ok (.aload_n 0, 1) := by decide +kernel
theorem dX0_bestAt_151 : decode cX0_bestAt 151 = .ok (.iload 6, 2) := by decide +kernel
theorem dX0_bestAt_153 : decode cX0_bestAt 153 = .ok (.invokevirtual 44, 3) := by decide +kernel
theorem dX0_bestAt_156 : decode cX0_bestAt 156 = .ok (.if_icmp .ge 8, 3) := by decide +kernel
theorem dX0_bestAt_159 : decode cX0_bestAt 159 = .ok (.iload 7, 2) := by decide +kernel
theorem dX0_bestAt_161 : decode cX0_bestAt 161 = .ok (.goto 5, 3) := by decide +kernel
theorem dX0_bestAt_164 : decode cX0_bestAt 164 = .ok (.iload 6, 2) := by decide +kernel
theorem dX0_bestAt_166 : decode cX0_bestAt 166 = .ok (.istore 6, 2) := by decide +kernel
theorem dX0_bestAt_168 : decode cX0_bestAt 168 = .ok (.iinc 7 1, 3) := by decide +kernel
theorem dX0_bestAt_171 : decode cX0_bestAt 171 = .ok (.goto (-130), 3) := by decide +kernel
theorem dX0_bestAt_174 : decode cX0_bestAt 174 = .ok (.iload 6, 2) := by decide +kernel
theorem dX0_bestAt_176 : decode cX0_bestAt 176 = .ok (.istore 4, 2) := by decide +kernel
theorem dX0_bestAt_178 : decode cX0_bestAt 178 = .ok (.aload_n 0, 1) := by decide +kernel
theorem dX0_bestAt_179 : decode cX0_bestAt 179 = .ok (.iload 4, 2) := by decide +kernel
theorem dX0_bestAt_181 : decode cX0_bestAt 181 = .ok (.invokevirtual 44, 3) := by decide +kernel
theorem dX0_bestAt_184 : decode cX0_bestAt 184 = .ok (.istore 7, 2) := by decide +kernel
theorem dX0_bestAt_186 : decode cX0_bestAt 186 = .ok (.iload_n 3, 1) := by decide +kernel
theorem dX0_bestAt_187 : decode cX0_bestAt 187 = .ok (.aload_n 0, 1) := by decide +kernel
theorem dX0_bestAt_188 : decode cX0_bestAt 188 = .ok (.iload 5, 2) := by decide +kernel
theorem dX0_bestAt_190 : decode cX0_bestAt 190 = .ok (.iload 7, 2) := by decide +kernel
theorem dX0_bestAt_192 : decode cX0_bestAt 192 = .ok (.invokevirtual 52, 3) := by decide +kernel
theorem dX0_bestAt_195 : decode cX0_bestAt 195 = .ok (.imul, 1) := by decide +kernel
theorem dX0_bestAt_196 : decode cX0_bestAt 196 = .ok (.istore_n 3, 1) := by decide +kernel
theorem dX0_bestAt_197 : decode cX0_bestAt 197 = .ok (.iinc 5 1, 3) := by decide +kernel
theorem dX0_bestAt_200 : decode cX0_bestAt 200 = .ok (.goto (-171), 3) := by decide +kernel
theorem dX0_bestAt_203 : decode cX0_bestAt 203 = .ok (.aload_n 0, 1) := by decide +kernel
theorem dX0_bestAt_204 : decode cX0_bestAt 204 = .ok (.iload 4, 2) := by decide +kernel
theorem dX0_bestAt_206 : decode cX0_bestAt 206 = .ok (.invokevirtual 44, 3) := by decide +kernel
theorem dX0_bestAt_209 : decode cX0_bestAt 209 = .ok (.ireturn, 1) := by decide +kernel
theorem q19 : (Jvm.Cond.initialized "AlignmentDesk") ∈ lw_all := lw_g (lw_at lw_m1 1 rfl) rfl
theorem q22 : (Jvm.Cond.instantiable "AlignmentDesk" (8 : Nat)) ∈ lw_all := lw_g (lw_at lw_m1 4 rfl) rfl
theorem q24 : (Jvm.Cond.instanceMethod ({ cls := "AlignmentDesk", name := "<init>", desc := "()V" } : Jvm.MethodName)) ∈ lw_all := lw_g (lw_at lw_m1 6 rfl) rfl
theorem q25 : (Jvm.Cond.code ({ cls := "AlignmentDesk", name := "<init>", desc := "()V" } : Jvm.MethodName) prog_1_method_1_code (1 : Nat) (Option.none : Option Jvm.ClassFile.FieldType)) ∈ lw_all := lw_g (lw_at lw_m1 7 rfl) rfl
theorem q26 : (Jvm.Cond.methodLink "AlignmentDesk" (1 : Nat) ({ cls := "java/lang/Object", name := "<init>", desc := "()V" } : Jvm.MethodName)) ∈ lw_all := lw_g (lw_at lw_m1 8 rfl) rfl
theorem q29 : (Jvm.Cond.fieldLink "AlignmentDesk" (26 : Nat) "AlignmentDesk" "count" "I") ∈ lw_all := lw_g (lw_at lw_m1 11 rfl) rfl
theorem q30 : (Jvm.Cond.fieldLink "AlignmentDesk" (7 : Nat) "AlignmentDesk" "weights" "[B") ∈ lw_all := lw_g (lw_at lw_m1 12 rfl) rfl
theorem q31 : (Jvm.Cond.fieldLink "AlignmentDesk" (37 : Nat) "AlignmentDesk" "size" "I") ∈ lw_all := lw_g (lw_at lw_m1 13 rfl) rfl
theorem q32 : (Jvm.Cond.fieldLink "AlignmentDesk" (13 : Nat) "AlignmentDesk" "label" "[B") ∈ lw_all := lw_g (lw_at lw_m1 14 rfl) rfl
theorem q33 : (Jvm.Cond.fieldLink "AlignmentDesk" (40 : Nat) "AlignmentDesk" "plain" "Z") ∈ lw_all := lw_g (lw_at lw_m1 15 rfl) rfl
theorem q34 : (Jvm.Cond.fieldLink "AlignmentDesk" (16 : Nat) "AlignmentDesk" "upTo" "[I") ∈ lw_all := lw_g (lw_at lw_m1 16 rfl) rfl
theorem q35 : (Jvm.Cond.fieldLink "AlignmentDesk" (20 : Nat) "AlignmentDesk" "onward" "[I") ∈ lw_all := lw_g (lw_at lw_m1 17 rfl) rfl
theorem q36 : (Jvm.Cond.fieldLink "AlignmentDesk" (23 : Nat) "AlignmentDesk" "bestOn" "[I") ∈ lw_all := lw_g (lw_at lw_m1 18 rfl) rfl
theorem q37 : (Jvm.Cond.lays "AlignmentDesk" "AlignmentDesk" "count" "I") ∈ lw_all := lw_g (lw_at lw_m1 19 rfl) rfl
theorem q38 : (Jvm.Cond.soleField "AlignmentDesk" "count") ∈ lw_all := lw_g (lw_at lw_m1 20 rfl) rfl
theorem q39 : (Jvm.Cond.laysFinal "AlignmentDesk" "AlignmentDesk" "weights" "[B") ∈ lw_all := lw_g (lw_at lw_m1 21 rfl) rfl
theorem q40 : (Jvm.Cond.soleField "AlignmentDesk" "weights") ∈ lw_all := lw_g (lw_at lw_m1 22 rfl) rfl
theorem q41 : (Jvm.Cond.lays "AlignmentDesk" "AlignmentDesk" "size" "I") ∈ lw_all := lw_g (lw_at lw_m1 23 rfl) rfl
theorem q42 : (Jvm.Cond.soleField "AlignmentDesk" "size") ∈ lw_all := lw_g (lw_at lw_m1 24 rfl) rfl
theorem q43 : (Jvm.Cond.laysFinal "AlignmentDesk" "AlignmentDesk" "label" "[B") ∈ lw_all := lw_g (lw_at lw_m1 25 rfl) rfl
theorem q44 : (Jvm.Cond.soleField "AlignmentDesk" "label") ∈ lw_all := lw_g (lw_at lw_m1 26 rfl) rfl
theorem q45 : (Jvm.Cond.lays "AlignmentDesk" "AlignmentDesk" "plain" "Z") ∈ lw_all := lw_g (lw_at lw_m1 27 rfl) rfl
theorem q46 : (Jvm.Cond.soleField "AlignmentDesk" "plain") ∈ lw_all := lw_g (lw_at lw_m1 28 rfl) rfl
theorem q47 : (Jvm.Cond.laysFinal "AlignmentDesk" "AlignmentDesk" "upTo" "[I") ∈ lw_all := lw_g (lw_at lw_m1 29 rfl) rfl
theorem q48 : (Jvm.Cond.soleField "AlignmentDesk" "upTo") ∈ lw_all := lw_g (lw_at lw_m1 30 rfl) rfl
theorem q49 : (Jvm.Cond.laysFinal "AlignmentDesk" "AlignmentDesk" "onward" "[I") ∈ lw_all := lw_g (lw_at lw_m1 31 rfl) rfl
theorem q50 : (Jvm.Cond.soleField "AlignmentDesk" "onward") ∈ lw_all := lw_g (lw_at lw_m1 32 rfl) rfl
theorem q51 : (Jvm.Cond.laysFinal "AlignmentDesk" "AlignmentDesk" "bestOn" "[I") ∈ lw_all := lw_g (lw_at lw_m1 33 rfl) rfl
theorem q52 : (Jvm.Cond.soleField "AlignmentDesk" "bestOn") ∈ lw_all := lw_g (lw_at lw_m1 34 rfl) rfl
theorem q53 : (Jvm.Cond.superclass "AlignmentDesk" "java/lang/Object") ∈ lw_all := lw_g (lw_at lw_m1 35 rfl) rfl
theorem q57 : (Jvm.Cond.instanceMethod ({ cls := "AlignmentDesk", name := "frame", desc := "(I)I" } : Jvm.MethodName)) ∈ lw_all := lw_g (lw_at lw_m1 39 rfl) rfl
theorem q58 : (Jvm.Cond.selects "AlignmentDesk" ({ cls := "AlignmentDesk", name := "frame", desc := "(I)I" } : Jvm.MethodName) ({ cls := "AlignmentDesk", name := "frame", desc := "(I)I" } : Jvm.MethodName)) ∈ lw_all := lw_g (lw_at lw_m1 40 rfl) rfl
theorem q59 : (Jvm.Cond.code ({ cls := "AlignmentDesk", name := "frame", desc := "(I)I" } : Jvm.MethodName) prog_1_method_4_code (4 : Nat) (Option.some Jvm.ClassFile.FieldType.int)) ∈ lw_all := lw_g (lw_at lw_m1 41 rfl) rfl
theorem q61 : (Jvm.Cond.instanceMethod ({ cls := "AlignmentDesk", name := "dropFrame", desc := "()I" } : Jvm.MethodName)) ∈ lw_all := lw_g (lw_at lw_m1 43 rfl) rfl
theorem q62 : (Jvm.Cond.selects "AlignmentDesk" ({ cls := "AlignmentDesk", name := "dropFrame", desc := "()I" } : Jvm.MethodName) ({ cls := "AlignmentDesk", name := "dropFrame", desc := "()I" } : Jvm.MethodName)) ∈ lw_all := lw_g (lw_at lw_m1 44 rfl) rfl
theorem q63 : (Jvm.Cond.code ({ cls := "AlignmentDesk", name := "dropFrame", desc := "()I" } : Jvm.MethodName) prog_1_method_5_code (1 : Nat) (Option.some Jvm.ClassFile.FieldType.int)) ∈ lw_all := lw_g (lw_at lw_m1 45 rfl) rfl
theorem q65 : (Jvm.Cond.instanceMethod ({ cls := "AlignmentDesk", name := "weigh", desc := "(III)Z" } : Jvm.MethodName)) ∈ lw_all := lw_g (lw_at lw_m1 47 rfl) rfl
theorem q66 : (Jvm.Cond.selects "AlignmentDesk" ({ cls := "AlignmentDesk", name := "weigh", desc := "(III)Z" } : Jvm.MethodName) ({ cls := "AlignmentDesk", name := "weigh", desc := "(III)Z" } : Jvm.MethodName)) ∈ lw_all := lw_g (lw_at lw_m1 48 rfl) rfl
theorem q67 : (Jvm.Cond.code ({ cls := "AlignmentDesk", name := "weigh", desc := "(III)Z" } : Jvm.MethodName) prog_1_method_6_code (4 : Nat) (Option.some Jvm.ClassFile.FieldType.boolean)) ∈ lw_all := lw_g (lw_at lw_m1 49 rfl) rfl
theorem q68 : (Jvm.Cond.methodLink "AlignmentDesk" (30 : Nat) ({ cls := "AlignmentDesk", name := "isFrame", desc := "(I)Z" } : Jvm.MethodName)) ∈ lw_all := lw_g (lw_at lw_m1 50 rfl) rfl
theorem q69 : (Jvm.Cond.privateMethod ({ cls := "AlignmentDesk", name := "isFrame", desc := "(I)Z" } : Jvm.MethodName)) ∈ lw_tbl := lw_at lw_m1 51 rfl
theorem q70 : (Jvm.Cond.instanceMethod ({ cls := "AlignmentDesk", name := "isFrame", desc := "(I)Z" } : Jvm.MethodName)) ∈ lw_all := lw_g (lw_at lw_m1 52 rfl) rfl
theorem q71 : (Jvm.Cond.code ({ cls := "AlignmentDesk", name := "isFrame", desc := "(I)Z" } : Jvm.MethodName) prog_1_method_3_code (2 : Nat) (Option.some Jvm.ClassFile.FieldType.boolean)) ∈ lw_all := lw_g (lw_at lw_m1 53 rfl) rfl
theorem q72 : (Jvm.Cond.methodLink "AlignmentDesk" (34 : Nat) ({ cls := "AlignmentDesk", name := "isMark", desc := "(I)Z" } : Jvm.MethodName)) ∈ lw_all := lw_g (lw_at lw_m1 54 rfl) rfl
theorem q73 : (Jvm.Cond.static ({ cls := "AlignmentDesk", name := "isMark", desc := "(I)Z" } : Jvm.MethodName)) ∈ lw_all := lw_g (lw_at lw_m1 55 rfl) rfl
theorem q74 : (Jvm.Cond.code ({ cls := "AlignmentDesk", name := "isMark", desc := "(I)Z" } : Jvm.MethodName) prog_1_method_2_code (1 : Nat) (Option.some Jvm.ClassFile.FieldType.boolean)) ∈ lw_all := lw_g (lw_at lw_m1 56 rfl) rfl
theorem q76 : (Jvm.Cond.instanceMethod ({ cls := "AlignmentDesk", name := "write", desc := "(I)I" } : Jvm.MethodName)) ∈ lw_all := lw_g (lw_at lw_m1 58 rfl) rfl
theorem q77 : (Jvm.Cond.selects "AlignmentDesk" ({ cls := "AlignmentDesk", name := "write", desc := "(I)I" } : Jvm.MethodName) ({ cls := "AlignmentDesk", name := "write", desc := "(I)I" } : Jvm.MethodName)) ∈ lw_all := lw_g (lw_at lw_m1 59 rfl) rfl
theorem q78 : (Jvm.Cond.code ({ cls := "AlignmentDesk", name := "write", desc := "(I)I" } : Jvm.MethodName) prog_1_method_7_code (2 : Nat) (Option.some Jvm.ClassFile.FieldType.int)) ∈ lw_all := lw_g (lw_at lw_m1 60 rfl) rfl
theorem q80 : (Jvm.Cond.instanceMethod ({ cls := "AlignmentDesk", name := "rub", desc := "()I" } : Jvm.MethodName)) ∈ lw_all := lw_g (lw_at lw_m1 62 rfl) rfl
theorem q81 : (Jvm.Cond.selects "AlignmentDesk" ({ cls := "AlignmentDesk", name := "rub", desc := "()I" } : Jvm.MethodName) ({ cls := "AlignmentDesk", name := "rub", desc := "()I" } : Jvm.MethodName)) ∈ lw_all := lw_g (lw_at lw_m1 63 rfl) rfl
theorem q82 : (Jvm.Cond.code ({ cls := "AlignmentDesk", name := "rub", desc := "()I" } : Jvm.MethodName) prog_1_method_8_code (1 : Nat) (Option.some Jvm.ClassFile.FieldType.int)) ∈ lw_all := lw_g (lw_at lw_m1 64 rfl) rfl
theorem q84 : (Jvm.Cond.instanceMethod ({ cls := "AlignmentDesk", name := "frames", desc := "()I" } : Jvm.MethodName)) ∈ lw_all := lw_g (lw_at lw_m1 66 rfl) rfl
theorem q85 : (Jvm.Cond.selects "AlignmentDesk" ({ cls := "AlignmentDesk", name := "frames", desc := "()I" } : Jvm.MethodName) ({ cls := "AlignmentDesk", name := "frames", desc := "()I" } : Jvm.MethodName)) ∈ lw_all := lw_g (lw_at lw_m1 67 rfl) rfl
theorem q86 : (Jvm.Cond.code ({ cls := "AlignmentDesk", name := "frames", desc := "()I" } : Jvm.MethodName) prog_1_method_9_code (1 : Nat) (Option.some Jvm.ClassFile.FieldType.int)) ∈ lw_all := lw_g (lw_at lw_m1 68 rfl) rfl
theorem q88 : (Jvm.Cond.instanceMethod ({ cls := "AlignmentDesk", name := "length", desc := "()I" } : Jvm.MethodName)) ∈ lw_all := lw_g (lw_at lw_m1 70 rfl) rfl
theorem q89 : (Jvm.Cond.selects "AlignmentDesk" ({ cls := "AlignmentDesk", name := "length", desc := "()I" } : Jvm.MethodName) ({ cls := "AlignmentDesk", name := "length", desc := "()I" } : Jvm.MethodName)) ∈ lw_all := lw_g (lw_at lw_m1 71 rfl) rfl
theorem q90 : (Jvm.Cond.code ({ cls := "AlignmentDesk", name := "length", desc := "()I" } : Jvm.MethodName) prog_1_method_10_code (1 : Nat) (Option.some Jvm.ClassFile.FieldType.int)) ∈ lw_all := lw_g (lw_at lw_m1 72 rfl) rfl
theorem q92 : (Jvm.Cond.instanceMethod ({ cls := "AlignmentDesk", name := "total", desc := "()I" } : Jvm.MethodName)) ∈ lw_all := lw_g (lw_at lw_m1 74 rfl) rfl
theorem q93 : (Jvm.Cond.selects "AlignmentDesk" ({ cls := "AlignmentDesk", name := "total", desc := "()I" } : Jvm.MethodName) ({ cls := "AlignmentDesk", name := "total", desc := "()I" } : Jvm.MethodName)) ∈ lw_all := lw_g (lw_at lw_m1 75 rfl) rfl
theorem q94 : (Jvm.Cond.code ({ cls := "AlignmentDesk", name := "total", desc := "()I" } : Jvm.MethodName) prog_1_method_18_code (1 : Nat) (Option.some Jvm.ClassFile.FieldType.int)) ∈ lw_all := lw_g (lw_at lw_m1 76 rfl) rfl
theorem q95 : (Jvm.Cond.methodLink "AlignmentDesk" (62 : Nat) ({ cls := "AlignmentDesk", name := "sumAll", desc := "()I" } : Jvm.MethodName)) ∈ lw_all := lw_g (lw_at lw_m1 77 rfl) rfl
theorem q96 : (Jvm.Cond.privateMethod ({ cls := "AlignmentDesk", name := "sumAll", desc := "()I" } : Jvm.MethodName)) ∈ lw_tbl := lw_at lw_m1 78 rfl
theorem q97 : (Jvm.Cond.instanceMethod ({ cls := "AlignmentDesk", name := "sumAll", desc := "()I" } : Jvm.MethodName)) ∈ lw_all := lw_g (lw_at lw_m1 79 rfl) rfl
theorem q98 : (Jvm.Cond.code ({ cls := "AlignmentDesk", name := "sumAll", desc := "()I" } : Jvm.MethodName) prog_1_method_17_code (3 : Nat) (Option.some Jvm.ClassFile.FieldType.int)) ∈ lw_all := lw_g (lw_at lw_m1 80 rfl) rfl
theorem q99 : (Jvm.Cond.methodLink "AlignmentDesk" (59 : Nat) ({ cls := "AlignmentDesk", name := "carryOn", desc := "()V" } : Jvm.MethodName)) ∈ lw_all := lw_g (lw_at lw_m1 81 rfl) rfl
theorem q100 : (Jvm.Cond.privateMethod ({ cls := "AlignmentDesk", name := "carryOn", desc := "()V" } : Jvm.MethodName)) ∈ lw_tbl := lw_at lw_m1 82 rfl
theorem q101 : (Jvm.Cond.instanceMethod ({ cls := "AlignmentDesk", name := "carryOn", desc := "()V" } : Jvm.MethodName)) ∈ lw_all := lw_g (lw_at lw_m1 83 rfl) rfl
theorem q102 : (Jvm.Cond.code ({ cls := "AlignmentDesk", name := "carryOn", desc := "()V" } : Jvm.MethodName) prog_1_method_15_code (6 : Nat) (Option.none : Option Jvm.ClassFile.FieldType)) ∈ lw_all := lw_g (lw_at lw_m1 84 rfl) rfl
theorem q103 : (Jvm.Cond.methodLink "AlignmentDesk" (48 : Nat) ({ cls := "AlignmentDesk", name := "leads", desc := "(II)Z" } : Jvm.MethodName)) ∈ lw_all := lw_g (lw_at lw_m1 85 rfl) rfl
theorem q104 : (Jvm.Cond.privateMethod ({ cls := "AlignmentDesk", name := "leads", desc := "(II)Z" } : Jvm.MethodName)) ∈ lw_tbl := lw_at lw_m1 86 rfl
theorem q105 : (Jvm.Cond.instanceMethod ({ cls := "AlignmentDesk", name := "leads", desc := "(II)Z" } : Jvm.MethodName)) ∈ lw_all := lw_g (lw_at lw_m1 87 rfl) rfl
theorem q106 : (Jvm.Cond.code ({ cls := "AlignmentDesk", name := "leads", desc := "(II)Z" } : Jvm.MethodName) prog_1_method_13_code (3 : Nat) (Option.some Jvm.ClassFile.FieldType.boolean)) ∈ lw_all := lw_g (lw_at lw_m1 88 rfl) rfl
theorem q107 : (Jvm.Cond.methodLink "AlignmentDesk" (44 : Nat) ({ cls := "AlignmentDesk", name := "markAt", desc := "(I)I" } : Jvm.MethodName)) ∈ lw_all := lw_g (lw_at lw_m1 89 rfl) rfl
theorem q108 : (Jvm.Cond.privateMethod ({ cls := "AlignmentDesk", name := "markAt", desc := "(I)I" } : Jvm.MethodName)) ∈ lw_tbl := lw_at lw_m1 90 rfl
theorem q109 : (Jvm.Cond.instanceMethod ({ cls := "AlignmentDesk", name := "markAt", desc := "(I)I" } : Jvm.MethodName)) ∈ lw_all := lw_g (lw_at lw_m1 91 rfl) rfl
theorem q110 : (Jvm.Cond.code ({ cls := "AlignmentDesk", name := "markAt", desc := "(I)I" } : Jvm.MethodName) prog_1_method_11_code (2 : Nat) (Option.some Jvm.ClassFile.FieldType.int)) ∈ lw_all := lw_g (lw_at lw_m1 92 rfl) rfl
theorem q111 : (Jvm.Cond.methodLink "AlignmentDesk" (52 : Nat) ({ cls := "AlignmentDesk", name := "weightOf", desc := "(II)I" } : Jvm.MethodName)) ∈ lw_all := lw_g (lw_at lw_m1 93 rfl) rfl
theorem q112 : (Jvm.Cond.privateMethod ({ cls := "AlignmentDesk", name := "weightOf", desc := "(II)I" } : Jvm.MethodName)) ∈ lw_tbl := lw_at lw_m1 94 rfl
theorem q113 : (Jvm.Cond.instanceMethod ({ cls := "AlignmentDesk", name := "weightOf", desc := "(II)I" } : Jvm.MethodName)) ∈ lw_all := lw_g (lw_at lw_m1 95 rfl) rfl
theorem q114 : (Jvm.Cond.code ({ cls := "AlignmentDesk", name := "weightOf", desc := "(II)I" } : Jvm.MethodName) prog_1_method_12_code (3 : Nat) (Option.some Jvm.ClassFile.FieldType.int)) ∈ lw_all := lw_g (lw_at lw_m1 96 rfl) rfl
theorem q115 : (Jvm.Cond.methodLink "AlignmentDesk" (56 : Nat) ({ cls := "AlignmentDesk", name := "endsAt", desc := "(I)Z" } : Jvm.MethodName)) ∈ lw_all := lw_g (lw_at lw_m1 97 rfl) rfl
theorem q116 : (Jvm.Cond.privateMethod ({ cls := "AlignmentDesk", name := "endsAt", desc := "(I)Z" } : Jvm.MethodName)) ∈ lw_tbl := lw_at lw_m1 98 rfl
theorem q117 : (Jvm.Cond.instanceMethod ({ cls := "AlignmentDesk", name := "endsAt", desc := "(I)Z" } : Jvm.MethodName)) ∈ lw_all := lw_g (lw_at lw_m1 99 rfl) rfl
theorem q118 : (Jvm.Cond.code ({ cls := "AlignmentDesk", name := "endsAt", desc := "(I)Z" } : Jvm.MethodName) prog_1_method_14_code (2 : Nat) (Option.some Jvm.ClassFile.FieldType.boolean)) ∈ lw_all := lw_g (lw_at lw_m1 100 rfl) rfl
theorem q120 : (Jvm.Cond.instanceMethod ({ cls := "AlignmentDesk", name := "paths", desc := "()I" } : Jvm.MethodName)) ∈ lw_all := lw_g (lw_at lw_m1 102 rfl) rfl
theorem q121 : (Jvm.Cond.selects "AlignmentDesk" ({ cls := "AlignmentDesk", name := "paths", desc := "()I" } : Jvm.MethodName) ({ cls := "AlignmentDesk", name := "paths", desc := "()I" } : Jvm.MethodName)) ∈ lw_all := lw_g (lw_at lw_m1 103 rfl) rfl
theorem q122 : (Jvm.Cond.code ({ cls := "AlignmentDesk", name := "paths", desc := "()I" } : Jvm.MethodName) prog_1_method_19_code (1 : Nat) (Option.some Jvm.ClassFile.FieldType.int)) ∈ lw_all := lw_g (lw_at lw_m1 104 rfl) rfl
theorem q124 : (Jvm.Cond.instanceMethod ({ cls := "AlignmentDesk", name := "best", desc := "()I" } : Jvm.MethodName)) ∈ lw_all := lw_g (lw_at lw_m1 106 rfl) rfl
theorem q125 : (Jvm.Cond.selects "AlignmentDesk" ({ cls := "AlignmentDesk", name := "best", desc := "()I" } : Jvm.MethodName) ({ cls := "AlignmentDesk", name := "best", desc := "()I" } : Jvm.MethodName)) ∈ lw_all := lw_g (lw_at lw_m1 107 rfl) rfl
theorem q126 : (Jvm.Cond.code ({ cls := "AlignmentDesk", name := "best", desc := "()I" } : Jvm.MethodName) prog_1_method_22_code (2 : Nat) (Option.some Jvm.ClassFile.FieldType.int)) ∈ lw_all := lw_g (lw_at lw_m1 108 rfl) rfl
theorem q127 : (Jvm.Cond.methodLink "AlignmentDesk" (72 : Nat) ({ cls := "AlignmentDesk", name := "greatest", desc := "()I" } : Jvm.MethodName)) ∈ lw_all := lw_g (lw_at lw_m1 109 rfl) rfl
theorem q128 : (Jvm.Cond.privateMethod ({ cls := "AlignmentDesk", name := "greatest", desc := "()I" } : Jvm.MethodName)) ∈ lw_tbl := lw_at lw_m1 110 rfl
theorem q129 : (Jvm.Cond.instanceMethod ({ cls := "AlignmentDesk", name := "greatest", desc := "()I" } : Jvm.MethodName)) ∈ lw_all := lw_g (lw_at lw_m1 111 rfl) rfl
theorem q130 : (Jvm.Cond.code ({ cls := "AlignmentDesk", name := "greatest", desc := "()I" } : Jvm.MethodName) prog_1_method_21_code (3 : Nat) (Option.some Jvm.ClassFile.FieldType.int)) ∈ lw_all := lw_g (lw_at lw_m1 112 rfl) rfl
theorem q131 : (Jvm.Cond.methodLink "AlignmentDesk" (66 : Nat) ({ cls := "AlignmentDesk", name := "carryBack", desc := "()V" } : Jvm.MethodName)) ∈ lw_all := lw_g (lw_at lw_m1 113 rfl) rfl
theorem q132 : (Jvm.Cond.privateMethod ({ cls := "AlignmentDesk", name := "carryBack", desc := "()V" } : Jvm.MethodName)) ∈ lw_tbl := lw_at lw_m1 114 rfl
theorem q133 : (Jvm.Cond.instanceMethod ({ cls := "AlignmentDesk", name := "carryBack", desc := "()V" } : Jvm.MethodName)) ∈ lw_all := lw_g (lw_at lw_m1 115 rfl) rfl
theorem q134 : (Jvm.Cond.code ({ cls := "AlignmentDesk", name := "carryBack", desc := "()V" } : Jvm.MethodName) prog_1_method_16_code (9 : Nat) (Option.none : Option Jvm.ClassFile.FieldType)) ∈ lw_all := lw_g (lw_at lw_m1 116 rfl) rfl
theorem q135 : (Jvm.Cond.methodLink "AlignmentDesk" (69 : Nat) ({ cls := "AlignmentDesk", name := "bestFrom", desc := "(I)I" } : Jvm.MethodName)) ∈ lw_all := lw_g (lw_at lw_m1 117 rfl) rfl
theorem q136 : (Jvm.Cond.privateMethod ({ cls := "AlignmentDesk", name := "bestFrom", desc := "(I)I" } : Jvm.MethodName)) ∈ lw_tbl := lw_at lw_m1 118 rfl
theorem q137 : (Jvm.Cond.instanceMethod ({ cls := "AlignmentDesk", name := "bestFrom", desc := "(I)I" } : Jvm.MethodName)) ∈ lw_all := lw_g (lw_at lw_m1 119 rfl) rfl
theorem q138 : (Jvm.Cond.code ({ cls := "AlignmentDesk", name := "bestFrom", desc := "(I)I" } : Jvm.MethodName) prog_1_method_20_code (3 : Nat) (Option.some Jvm.ClassFile.FieldType.int)) ∈ lw_all := lw_g (lw_at lw_m1 120 rfl) rfl
theorem q140 : (Jvm.Cond.instanceMethod ({ cls := "AlignmentDesk", name := "through", desc := "(II)I" } : Jvm.MethodName)) ∈ lw_all := lw_g (lw_at lw_m1 122 rfl) rfl
theorem q141 : (Jvm.Cond.selects "AlignmentDesk" ({ cls := "AlignmentDesk", name := "through", desc := "(II)I" } : Jvm.MethodName) ({ cls := "AlignmentDesk", name := "through", desc := "(II)I" } : Jvm.MethodName)) ∈ lw_all := lw_g (lw_at lw_m1 123 rfl) rfl
theorem q142 : (Jvm.Cond.code ({ cls := "AlignmentDesk", name := "through", desc := "(II)I" } : Jvm.MethodName) prog_1_method_23_code (5 : Nat) (Option.some Jvm.ClassFile.FieldType.int)) ∈ lw_all := lw_g (lw_at lw_m1 124 rfl) rfl
theorem q144 : (Jvm.Cond.instanceMethod ({ cls := "AlignmentDesk", name := "prefix", desc := "()I" } : Jvm.MethodName)) ∈ lw_all := lw_g (lw_at lw_m1 126 rfl) rfl
theorem q145 : (Jvm.Cond.selects "AlignmentDesk" ({ cls := "AlignmentDesk", name := "prefix", desc := "()I" } : Jvm.MethodName) ({ cls := "AlignmentDesk", name := "prefix", desc := "()I" } : Jvm.MethodName)) ∈ lw_all := lw_g (lw_at lw_m1 127 rfl) rfl
theorem q146 : (Jvm.Cond.code ({ cls := "AlignmentDesk", name := "prefix", desc := "()I" } : Jvm.MethodName) prog_1_method_25_code (8 : Nat) (Option.some Jvm.ClassFile.FieldType.int)) ∈ lw_all := lw_g (lw_at lw_m1 128 rfl) rfl
theorem q147 : (Jvm.Cond.methodLink "AlignmentDesk" (75 : Nat) ({ cls := "AlignmentDesk", name := "everything", desc := "()I" } : Jvm.MethodName)) ∈ lw_all := lw_g (lw_at lw_m1 129 rfl) rfl
theorem q148 : (Jvm.Cond.instanceMethod ({ cls := "AlignmentDesk", name := "everything", desc := "()I" } : Jvm.MethodName)) ∈ lw_all := lw_g (lw_at lw_m1 130 rfl) rfl
theorem q149 : (Jvm.Cond.selects "AlignmentDesk" ({ cls := "AlignmentDesk", name := "everything", desc := "()I" } : Jvm.MethodName) ({ cls := "AlignmentDesk", name := "everything", desc := "()I" } : Jvm.MethodName)) ∈ lw_all := lw_g (lw_at lw_m1 131 rfl) rfl
theorem q150 : (Jvm.Cond.code ({ cls := "AlignmentDesk", name := "everything", desc := "()I" } : Jvm.MethodName) prog_1_method_26_code (3 : Nat) (Option.some Jvm.ClassFile.FieldType.int)) ∈ lw_all := lw_g (lw_at lw_m1 132 rfl) rfl
theorem q151 : (Jvm.Cond.methodLink "AlignmentDesk" (78 : Nat) ({ cls := "AlignmentDesk", name := "frameSum", desc := "(I)I" } : Jvm.MethodName)) ∈ lw_all := lw_g (lw_at lw_m1 133 rfl) rfl
theorem q152 : (Jvm.Cond.privateMethod ({ cls := "AlignmentDesk", name := "frameSum", desc := "(I)I" } : Jvm.MethodName)) ∈ lw_tbl := lw_at lw_m1 134 rfl
theorem q153 : (Jvm.Cond.instanceMethod ({ cls := "AlignmentDesk", name := "frameSum", desc := "(I)I" } : Jvm.MethodName)) ∈ lw_all := lw_g (lw_at lw_m1 135 rfl) rfl
theorem q154 : (Jvm.Cond.code ({ cls := "AlignmentDesk", name := "frameSum", desc := "(I)I" } : Jvm.MethodName) prog_1_method_24_code (4 : Nat) (Option.some Jvm.ClassFile.FieldType.int)) ∈ lw_all := lw_g (lw_at lw_m1 136 rfl) rfl
theorem q157 : (Jvm.Cond.instanceMethod ({ cls := "AlignmentDesk", name := "bestNext", desc := "()I" } : Jvm.MethodName)) ∈ lw_all := lw_g (lw_at lw_m1 139 rfl) rfl
theorem q158 : (Jvm.Cond.selects "AlignmentDesk" ({ cls := "AlignmentDesk", name := "bestNext", desc := "()I" } : Jvm.MethodName) ({ cls := "AlignmentDesk", name := "bestNext", desc := "()I" } : Jvm.MethodName)) ∈ lw_all := lw_g (lw_at lw_m1 140 rfl) rfl
theorem q159 : (Jvm.Cond.code ({ cls := "AlignmentDesk", name := "bestNext", desc := "()I" } : Jvm.MethodName) prog_1_method_27_code (5 : Nat) (Option.some Jvm.ClassFile.FieldType.int)) ∈ lw_all := lw_g (lw_at lw_m1 141 rfl) rfl
theorem q160 : (Jvm.Cond.methodLink "AlignmentDesk" (81 : Nat) ({ cls := "AlignmentDesk", name := "write", desc := "(I)I" } : Jvm.MethodName)) ∈ lw_all := lw_g (lw_at lw_m1 142 rfl) rfl
theorem q161 : (Jvm.Cond.methodLink "AlignmentDesk" (84 : Nat) ({ cls := "AlignmentDesk", name := "total", desc := "()I" } : Jvm.MethodName)) ∈ lw_all := lw_g (lw_at lw_m1 143 rfl) rfl
theorem q162 : (Jvm.Cond.methodLink "AlignmentDesk" (87 : Nat) ({ cls := "AlignmentDesk", name := "rub", desc := "()I" } : Jvm.MethodName)) ∈ lw_all := lw_g (lw_at lw_m1 144 rfl) rfl
theorem q164 : (Jvm.Cond.instanceMethod ({ cls := "AlignmentDesk", name := "bestAt", desc := "(I)I" } : Jvm.MethodName)) ∈ lw_all := lw_g (lw_at lw_m1 146 rfl) rfl
theorem q165 : (Jvm.Cond.selects "AlignmentDesk" ({ cls := "AlignmentDesk", name := "bestAt", desc := "(I)I" } : Jvm.MethodName) ({ cls := "AlignmentDesk", name := "bestAt", desc := "(I)I" } : Jvm.MethodName)) ∈ lw_all := lw_g (lw_at lw_m1 147 rfl) rfl
theorem q166 : (Jvm.Cond.code ({ cls := "AlignmentDesk", name := "bestAt", desc := "(I)I" } : Jvm.MethodName) prog_1_method_28_code (12 : Nat) (Option.some Jvm.ClassFile.FieldType.int)) ∈ lw_all := lw_g (lw_at lw_m1 148 rfl) rfl
theorem in_X0 : ∀ w ∈ wsX00, w ∈ lw_all := lw_in wsX00 [37, 39, 41, 43, 45, 47, 49, 51] (by decide +kernel) (by decide +kernel)
end
section
/-! AlignmentDeskModel -/
set_option maxRecDepth 100000
def RX1 : String := "AlignmentDeskModel"
def TX1 : u_T := fun k => match k with
  | 0 => ("AlignmentDeskModel", "size", "I", false)
  | 1 => ("AlignmentDeskModel", "weights", "[I", false)
  | 2 => ("AlignmentDeskModel", "many", "I", false)
  | 3 => ("AlignmentDeskModel", "label", "[I", false)
  | 4 => ("AlignmentDeskModel", "path", "[I", false)
  | _ => ("AlignmentDeskModel", "read", "[I", false)
def tyX1 : Nat → FieldType := fun k => match k with
  | 0 => .int
  | 1 => .array .int
  | 2 => .int
  | 3 => .array .int
  | 4 => .array .int
  | _ => .array .int
abbrev wsX10 : List Cond := u_ws RX1 TX1 6
theorem nmX1 : ∀ a, a < 6 → ∀ b, b < 6 → a ≠ b → (TX1 a).2.1 ≠ (TX1 b).2.1 := by decide +kernel
theorem tyX1_ok : ∀ k, k < 6 → parseFieldDescriptor (TX1 k).2.2.1 = some (tyX1 k) := by decide +kernel
abbrev cX1_init : ByteArray := prog_3_method_1_code
def yX1_init : MethodName := ⟨RX1, "<init>", "()V"⟩
theorem dX1_init_0 : decode cX1_init 0 = .ok (.aload_n 0, 1) := by decide +kernel
theorem dX1_init_1 : decode cX1_init 1 = .ok (.invokespecial 1, 3) := by decide +kernel
theorem dX1_init_4 : decode cX1_init 4 = .ok (.aload_n 0, 1) := by decide +kernel
theorem dX1_init_5 : decode cX1_init 5 = .ok (.bipush 24, 2) := by decide +kernel
theorem dX1_init_7 : decode cX1_init 7 = .ok (.newarray .int, 2) := by decide +kernel
theorem dX1_init_9 : decode cX1_init 9 = .ok (.putfield 7, 3) := by decide +kernel
theorem dX1_init_12 : decode cX1_init 12 = .ok (.aload_n 0, 1) := by decide +kernel
theorem dX1_init_13 : decode cX1_init 13 = .ok (.iconst 4, 1) := by decide +kernel
theorem dX1_init_14 : decode cX1_init 14 = .ok (.newarray .int, 2) := by decide +kernel
theorem dX1_init_16 : decode cX1_init 16 = .ok (.putfield 13, 3) := by decide +kernel
theorem dX1_init_19 : decode cX1_init 19 = .ok (.aload_n 0, 1) := by decide +kernel
theorem dX1_init_20 : decode cX1_init 20 = .ok (.bipush 6, 2) := by decide +kernel
theorem dX1_init_22 : decode cX1_init 22 = .ok (.newarray .int, 2) := by decide +kernel
theorem dX1_init_24 : decode cX1_init 24 = .ok (.putfield 16, 3) := by decide +kernel
theorem dX1_init_27 : decode cX1_init 27 = .ok (.aload_n 0, 1) := by decide +kernel
theorem dX1_init_28 : decode cX1_init 28 = .ok (.bipush 6, 2) := by decide +kernel
theorem dX1_init_30 : decode cX1_init 30 = .ok (.newarray .int, 2) := by decide +kernel
theorem dX1_init_32 : decode cX1_init 32 = .ok (.putfield 19, 3) := by decide +kernel
theorem dX1_init_35 : decode cX1_init 35 = .ok (.return_, 1) := by decide +kernel
abbrev cX1_frame : ByteArray := prog_3_method_2_code
def yX1_frame : MethodName := ⟨RX1, "frame", "(I)I"⟩
theorem dX1_frame_0 : decode cX1_frame 0 = .ok (.iload_n 1, 1) := by decide +kernel
theorem dX1_frame_1 : decode cX1_frame 1 = .ok (.ifCond .lt 47, 3) := by decide +kernel
theorem dX1_frame_4 : decode cX1_frame 4 = .ok (.iload_n 1, 1) := by decide +kernel
theorem dX1_frame_5 : decode cX1_frame 5 = .ok (.sipush 8888, 3) := by decide +kernel
theorem dX1_frame_8 : decode cX1_frame 8 = .ok (.if_icmp .gt 40, 3) := by decide +kernel
theorem dX1_frame_11 : decode cX1_frame 11 = .ok (.iload_n 1, 1) := by decide +kernel
theorem dX1_frame_12 : decode cX1_frame 12 = .ok (.bipush 10, 2) := by decide +kernel
theorem dX1_frame_14 : decode cX1_frame 14 = .ok (.irem, 1) := by decide +kernel
theorem dX1_frame_15 : decode cX1_frame 15 = .ok (.bipush 9, 2) := by decide +kernel
theorem dX1_frame_17 : decode cX1_frame 17 = .ok (.if_icmp .ge 31, 3) := by decide +kernel
theorem dX1_frame_20 : decode cX1_frame 20 = .ok (.iload_n 1, 1) := by decide +kernel
theorem dX1_frame_21 : decode cX1_frame 21 = .ok (.bipush 10, 2) := by decide +kernel
theorem dX1_frame_23 : decode cX1_frame 23 = .ok (.idiv, 1) := by decide +kernel
theorem dX1_frame_24 : decode cX1_frame 24 = .ok (.bipush 10, 2) := by decide +kernel
theorem dX1_frame_26 : decode cX1_frame 26 = .ok (.irem, 1) := by decide +kernel
theorem dX1_frame_27 : decode cX1_frame 27 = .ok (.bipush 9, 2) := by decide +kernel
theorem dX1_frame_29 : decode cX1_frame 29 = .ok (.if_icmp .ge 19, 3) := by decide +kernel
theorem dX1_frame_32 : decode cX1_frame 32 = .ok (.iload_n 1, 1) := by decide +kernel
theorem dX1_frame_33 : decode cX1_frame 33 = .ok (.bipush 100, 2) := by decide +kernel
theorem dX1_frame_35 : decode cX1_frame 35 = .ok (.idiv, 1) := by decide +kernel
theorem dX1_frame_36 : decode cX1_frame 36 = .ok (.bipush 10, 2) := by decide +kernel
theorem dX1_frame_38 : decode cX1_frame 38 = .ok (.irem, 1) := by decide +kernel
theorem dX1_frame_39 : decode cX1_frame 39 = .ok (.bipush 9, 2) := by decide +kernel
theorem dX1_frame_41 : decode cX1_frame 41 = .ok (.if_icmp .ge 7, 3) := by decide +kernel
theorem dX1_frame_44 : decode cX1_frame 44 = .ok (.iconst 1, 1) := by decide +kernel
theorem dX1_frame_45 : decode cX1_frame 45 = .ok (.goto 4, 3) := by decide +kernel
theorem dX1_frame_48 : decode cX1_frame 48 = .ok (.iconst 0, 1) := by decide +kernel
theorem dX1_frame_49 : decode cX1_frame 49 = .ok (.istore_n 2, 1) := by decide +kernel
theorem dX1_frame_50 : decode cX1_frame 50 = .ok (.iload_n 2, 1) := by decide +kernel
theorem dX1_frame_51 : decode cX1_frame 51 = .ok (.ifCond .ne 5, 3) := by decide +kernel
theorem dX1_frame_54 : decode cX1_frame 54 = .ok (.iconst (-1), 1) := by decide +kernel
theorem dX1_frame_55 : decode cX1_frame 55 = .ok (.ireturn, 1) := by decide +kernel
theorem dX1_frame_56 : decode cX1_frame 56 = .ok (.aload_n 0, 1) := by decide +kernel
theorem dX1_frame_57 : decode cX1_frame 57 = .ok (.getfield 22, 3) := by decide +kernel
theorem dX1_frame_60 : decode cX1_frame 60 = .ok (.bipush 6, 2) := by decide +kernel
theorem dX1_frame_62 : decode cX1_frame 62 = .ok (.if_icmp .lt 6, 3) := by decide +kernel
theorem dX1_frame_65 : decode cX1_frame 65 = .ok (.bipush (-2), 2) := by decide +kernel
theorem dX1_frame_67 : decode cX1_frame 67 = .ok (.ireturn, 1) := by decide +kernel
theorem dX1_frame_68 : decode cX1_frame 68 = .ok (.iload_n 1, 1) := by decide +kernel
theorem dX1_frame_69 : decode cX1_frame 69 = .ok (.istore_n 3, 1) := by decide +kernel
theorem dX1_frame_70 : decode cX1_frame 70 = .ok (.iconst 0, 1) := by decide +kernel
theorem dX1_frame_71 : decode cX1_frame 71 = .ok (.istore 4, 2) := by decide +kernel
theorem dX1_frame_73 : decode cX1_frame 73 = .ok (.iload 4, 2) := by decide +kernel
theorem dX1_frame_75 : decode cX1_frame 75 = .ok (.iconst 4, 1) := by decide +kernel
theorem dX1_frame_76 : decode cX1_frame 76 = .ok (.if_icmp .ge 32, 3) := by decide +kernel
theorem dX1_frame_79 : decode cX1_frame 79 = .ok (.aload_n 0, 1) := by decide +kernel
theorem dX1_frame_80 : decode cX1_frame 80 = .ok (.getfield 7, 3) := by decide +kernel
theorem dX1_frame_83 : decode cX1_frame 83 = .ok (.iconst 4, 1) := by decide +kernel
theorem dX1_frame_84 : decode cX1_frame 84 = .ok (.aload_n 0, 1) := by decide +kernel
theorem dX1_frame_85 : decode cX1_frame 85 = .ok (.getfield 22, 3) := by decide +kernel
theorem dX1_frame_88 : decode cX1_frame 88 = .ok (.imul, 1) := by decide +kernel
theorem dX1_frame_89 : decode cX1_frame 89 = .ok (.iload 4, 2) := by decide +kernel
theorem dX1_frame_91 : decode cX1_frame 91 = .ok (.iadd, 1) := by decide +kernel
theorem dX1_frame_92 : decode cX1_frame 92 = .ok (.iload_n 3, 1) := by decide +kernel
theorem dX1_frame_93 : decode cX1_frame 93 = .ok (.bipush 10, 2) := by decide +kernel
theorem dX1_frame_95 : decode cX1_frame 95 = .ok (.irem, 1) := by decide +kernel
theorem dX1_frame_96 : decode cX1_frame 96 = .ok (.iastore, 1) := by decide +kernel
theorem dX1_frame_97 : decode cX1_frame 97 = .ok (.iload_n 3, 1) := by decide +kernel
theorem dX1_frame_98 : decode cX1_frame 98 = .ok (.bipush 10, 2) := by decide +kernel
theorem dX1_frame_100 : decode cX1_frame 100 = .ok (.idiv, 1) := by decide +kernel
theorem dX1_frame_101 : decode cX1_frame 101 = .ok (.istore_n 3, 1) := by decide +kernel
theorem dX1_frame_102 : decode cX1_frame 102 = .ok (.iinc 4 1, 3) := by decide +kernel
theorem dX1_frame_105 : decode cX1_frame 105 = .ok (.goto (-32), 3) := by decide +kernel
theorem dX1_frame_108 : decode cX1_frame 108 = .ok (.aload_n 0, 1) := by decide +kernel
theorem dX1_frame_109 : decode cX1_frame 109 = .ok (.dup, 1) := by decide +kernel
theorem dX1_frame_110 : decode cX1_frame 110 = .ok (.getfield 22, 3) := by decide +kernel
theorem dX1_frame_113 : decode cX1_frame 113 = .ok (.iconst 1, 1) := by decide +kernel
theorem dX1_frame_114 : decode cX1_frame 114 = .ok (.iadd, 1) := by decide +kernel
theorem dX1_frame_115 : decode cX1_frame 115 = .ok (.putfield 22, 3) := by decide +kernel
theorem dX1_frame_118 : decode cX1_frame 118 = .ok (.aload_n 0, 1) := by decide +kernel
theorem dX1_frame_119 : decode cX1_frame 119 = .ok (.getfield 22, 3) := by decide +kernel
theorem dX1_frame_122 : decode cX1_frame 122 = .ok (.iconst 1, 1) := by decide +kernel
theorem dX1_frame_123 : decode cX1_frame 123 = .ok (.isub, 1) := by decide +kernel
theorem dX1_frame_124 : decode cX1_frame 124 = .ok (.ireturn, 1) := by decide +kernel
abbrev cX1_dropFrame : ByteArray := prog_3_method_3_code
def yX1_dropFrame : MethodName := ⟨RX1, "dropFrame", "()I"⟩
theorem dX1_dropFrame_0 : decode cX1_dropFrame 0 = .ok (.aload_n 0, 1) := by decide +kernel
theorem dX1_dropFrame_1 : decode cX1_dropFrame 1 = .ok (.getfield 22, 3) := by decide +kernel
theorem dX1_dropFrame_4 : decode cX1_dropFrame 4 = .ok (.ifCond .ne 5, 3) := by decide +kernel
theorem dX1_dropFrame_7 : decode cX1_dropFrame 7 = .ok (.iconst (-1), 1) := by decide +kernel
theorem dX1_dropFrame_8 : decode cX1_dropFrame 8 = .ok (.ireturn, 1) := by decide +kernel
theorem dX1_dropFrame_9 : decode cX1_dropFrame 9 = .ok (.aload_n 0, 1) := by decide +kernel
theorem dX1_dropFrame_10 : decode cX1_dropFrame 10 = .ok (.dup, 1) := by decide +kernel
theorem dX1_dropFrame_11 : decode cX1_dropFrame 11 = .ok (.getfield 22, 3) := by decide +kernel
theorem dX1_dropFrame_14 : decode cX1_dropFrame 14 = .ok (.iconst 1, 1) := by decide +kernel
theorem dX1_dropFrame_15 : decode cX1_dropFrame 15 = .ok (.isub, 1) := by decide +kernel
theorem dX1_dropFrame_16 : decode cX1_dropFrame 16 = .ok (.putfield 22, 3) := by decide +kernel
theorem dX1_dropFrame_19 : decode cX1_dropFrame 19 = .ok (.aload_n 0, 1) := by decide +kernel
theorem dX1_dropFrame_20 : decode cX1_dropFrame 20 = .ok (.getfield 22, 3) := by decide +kernel
theorem dX1_dropFrame_23 : decode cX1_dropFrame 23 = .ok (.ireturn, 1) := by decide +kernel
abbrev cX1_weigh : ByteArray := prog_3_method_6_code
def yX1_weigh : MethodName := ⟨RX1, "weigh", "(III)Z"⟩
theorem dX1_weigh_0 : decode cX1_weigh 0 = .ok (.aload_n 0, 1) := by decide +kernel
theorem dX1_weigh_1 : decode cX1_weigh 1 = .ok (.iload_n 1, 1) := by decide +kernel
theorem dX1_weigh_2 : decode cX1_weigh 2 = .ok (.invokevirtual 26, 3) := by decide +kernel
theorem dX1_weigh_5 : decode cX1_weigh 5 = .ok (.ifCond .eq 21, 3) := by decide +kernel
theorem dX1_weigh_8 : decode cX1_weigh 8 = .ok (.aload_n 0, 1) := by decide +kernel
theorem dX1_weigh_9 : decode cX1_weigh 9 = .ok (.iload_n 2, 1) := by decide +kernel
theorem dX1_weigh_10 : decode cX1_weigh 10 = .ok (.invokevirtual 30, 3) := by decide +kernel
theorem dX1_weigh_13 : decode cX1_weigh 13 = .ok (.ifCond .eq 13, 3) := by decide +kernel
theorem dX1_weigh_16 : decode cX1_weigh 16 = .ok (.iload_n 3, 1) := by decide +kernel
theorem dX1_weigh_17 : decode cX1_weigh 17 = .ok (.ifCond .lt 9, 3) := by decide +kernel
theorem dX1_weigh_20 : decode cX1_weigh 20 = .ok (.iload_n 3, 1) := by decide +kernel
theorem dX1_weigh_21 : decode cX1_weigh 21 = .ok (.bipush 8, 2) := by decide +kernel
theorem dX1_weigh_23 : decode cX1_weigh 23 = .ok (.if_icmp .le 5, 3) := by decide +kernel
theorem dX1_weigh_26 : decode cX1_weigh 26 = .ok (.iconst 0, 1) := by decide +kernel
theorem dX1_weigh_27 : decode cX1_weigh 27 = .ok (.ireturn, 1) := by decide +kernel
theorem dX1_weigh_28 : decode cX1_weigh 28 = .ok (.aload_n 0, 1) := by decide +kernel
theorem dX1_weigh_29 : decode cX1_weigh 29 = .ok (.getfield 7, 3) := by decide +kernel
theorem dX1_weigh_32 : decode cX1_weigh 32 = .ok (.iconst 4, 1) := by decide +kernel
theorem dX1_weigh_33 : decode cX1_weigh 33 = .ok (.iload_n 1, 1) := by decide +kernel
theorem dX1_weigh_34 : decode cX1_weigh 34 = .ok (.imul, 1) := by decide +kernel
theorem dX1_weigh_35 : decode cX1_weigh 35 = .ok (.iload_n 2, 1) := by decide +kernel
theorem dX1_weigh_36 : decode cX1_weigh 36 = .ok (.iadd, 1) := by decide +kernel
theorem dX1_weigh_37 : decode cX1_weigh 37 = .ok (.iload_n 3, 1) := by decide +kernel
theorem dX1_weigh_38 : decode cX1_weigh 38 = .ok (.iastore, 1) := by decide +kernel
theorem dX1_weigh_39 : decode cX1_weigh 39 = .ok (.iconst 1, 1) := by decide +kernel
theorem dX1_weigh_40 : decode cX1_weigh 40 = .ok (.ireturn, 1) := by decide +kernel
abbrev cX1_is : ByteArray := prog_3_method_5_code
def yX1_is : MethodName := ⟨RX1, "is", "(I)Z"⟩
theorem dX1_is_0 : decode cX1_is 0 = .ok (.iload_n 1, 1) := by decide +kernel
theorem dX1_is_1 : decode cX1_is 1 = .ok (.ifCond .lt 15, 3) := by decide +kernel
theorem dX1_is_4 : decode cX1_is 4 = .ok (.iload_n 1, 1) := by decide +kernel
theorem dX1_is_5 : decode cX1_is 5 = .ok (.aload_n 0, 1) := by decide +kernel
theorem dX1_is_6 : decode cX1_is 6 = .ok (.getfield 22, 3) := by decide +kernel
theorem dX1_is_9 : decode cX1_is 9 = .ok (.if_icmp .ge 7, 3) := by decide +kernel
theorem dX1_is_12 : decode cX1_is 12 = .ok (.iconst 1, 1) := by decide +kernel
theorem dX1_is_13 : decode cX1_is 13 = .ok (.goto 4, 3) := by decide +kernel
theorem dX1_is_16 : decode cX1_is 16 = .ok (.iconst 0, 1) := by decide +kernel
theorem dX1_is_17 : decode cX1_is 17 = .ok (.ireturn, 1) := by decide +kernel
abbrev cX1_mark : ByteArray := prog_3_method_4_code
def yX1_mark : MethodName := ⟨RX1, "mark", "(I)Z"⟩
theorem dX1_mark_0 : decode cX1_mark 0 = .ok (.iload_n 1, 1) := by decide +kernel
theorem dX1_mark_1 : decode cX1_mark 1 = .ok (.ifCond .lt 12, 3) := by decide +kernel
theorem dX1_mark_4 : decode cX1_mark 4 = .ok (.iload_n 1, 1) := by decide +kernel
theorem dX1_mark_5 : decode cX1_mark 5 = .ok (.iconst 3, 1) := by decide +kernel
theorem dX1_mark_6 : decode cX1_mark 6 = .ok (.if_icmp .gt 7, 3) := by decide +kernel
theorem dX1_mark_9 : decode cX1_mark 9 = .ok (.iconst 1, 1) := by decide +kernel
theorem dX1_mark_10 : decode cX1_mark 10 = .ok (.goto 4, 3) := by decide +kernel
theorem dX1_mark_13 : decode cX1_mark 13 = .ok (.iconst 0, 1) := by decide +kernel
theorem dX1_mark_14 : decode cX1_mark 14 = .ok (.ireturn, 1) := by decide +kernel
abbrev cX1_write : ByteArray := prog_3_method_7_code
def yX1_write : MethodName := ⟨RX1, "write", "(I)I"⟩
theorem dX1_write_0 : decode cX1_write 0 = .ok (.iload_n 1, 1) := by decide +kernel
theorem dX1_write_1 : decode cX1_write 1 = .ok (.iconst 1, 1) := by decide +kernel
theorem dX1_write_2 : decode cX1_write 2 = .ok (.if_icmp .lt 8, 3) := by decide +kernel
theorem dX1_write_5 : decode cX1_write 5 = .ok (.iload_n 1, 1) := by decide +kernel
theorem dX1_write_6 : decode cX1_write 6 = .ok (.iconst 3, 1) := by decide +kernel
theorem dX1_write_7 : decode cX1_write 7 = .ok (.if_icmp .le 5, 3) := by decide +kernel
theorem dX1_write_10 : decode cX1_write 10 = .ok (.iconst (-1), 1) := by decide +kernel
theorem dX1_write_11 : decode cX1_write 11 = .ok (.ireturn, 1) := by decide +kernel
theorem dX1_write_12 : decode cX1_write 12 = .ok (.aload_n 0, 1) := by decide +kernel
theorem dX1_write_13 : decode cX1_write 13 = .ok (.getfield 33, 3) := by decide +kernel
theorem dX1_write_16 : decode cX1_write 16 = .ok (.iconst 4, 1) := by decide +kernel
theorem dX1_write_17 : decode cX1_write 17 = .ok (.if_icmp .lt 6, 3) := by decide +kernel
theorem dX1_write_20 : decode cX1_write 20 = .ok (.bipush (-2), 2) := by decide +kernel
theorem dX1_write_22 : decode cX1_write 22 = .ok (.ireturn, 1) := by decide +kernel
theorem dX1_write_23 : decode cX1_write 23 = .ok (.aload_n 0, 1) := by decide +kernel
theorem dX1_write_24 : decode cX1_write 24 = .ok (.getfield 13, 3) := by decide +kernel
theorem dX1_write_27 : decode cX1_write 27 = .ok (.aload_n 0, 1) := by decide +kernel
theorem dX1_write_28 : decode cX1_write 28 = .ok (.getfield 33, 3) := by decide +kernel
theorem dX1_write_31 : decode cX1_write 31 = .ok (.iload_n 1, 1) := by decide +kernel
theorem dX1_write_32 : decode cX1_write 32 = .ok (.iastore, 1) := by decide +kernel
theorem dX1_write_33 : decode cX1_write 33 = .ok (.aload_n 0, 1) := by decide +kernel
theorem dX1_write_34 : decode cX1_write 34 = .ok (.dup, 1) := by decide +kernel
theorem dX1_write_35 : decode cX1_write 35 = .ok (.getfield 33, 3) := by decide +kernel
theorem dX1_write_38 : decode cX1_write 38 = .ok (.iconst 1, 1) := by decide +kernel
theorem dX1_write_39 : decode cX1_write 39 = .ok (.iadd, 1) := by decide +kernel
theorem dX1_write_40 : decode cX1_write 40 = .ok (.putfield 33, 3) := by decide +kernel
theorem dX1_write_43 : decode cX1_write 43 = .ok (.aload_n 0, 1) := by decide +kernel
theorem dX1_write_44 : decode cX1_write 44 = .ok (.getfield 33, 3) := by decide +kernel
theorem dX1_write_47 : decode cX1_write 47 = .ok (.ireturn, 1) := by decide +kernel
abbrev cX1_rub : ByteArray := prog_3_method_8_code
def yX1_rub : MethodName := ⟨RX1, "rub", "()I"⟩
theorem dX1_rub_0 : decode cX1_rub 0 = .ok (.aload_n 0, 1) := by decide +kernel
theorem dX1_rub_1 : decode cX1_rub 1 = .ok (.getfield 33, 3) := by decide +kernel
theorem dX1_rub_4 : decode cX1_rub 4 = .ok (.ifCond .ne 5, 3) := by decide +kernel
theorem dX1_rub_7 : decode cX1_rub 7 = .ok (.iconst (-1), 1) := by decide +kernel
theorem dX1_rub_8 : decode cX1_rub 8 = .ok (.ireturn, 1) := by decide +kernel
theorem dX1_rub_9 : decode cX1_rub 9 = .ok (.aload_n 0, 1) := by decide +kernel
theorem dX1_rub_10 : decode cX1_rub 10 = .ok (.dup, 1) := by decide +kernel
theorem dX1_rub_11 : decode cX1_rub 11 = .ok (.getfield 33, 3) := by decide +kernel
theorem dX1_rub_14 : decode cX1_rub 14 = .ok (.iconst 1, 1) := by decide +kernel
theorem dX1_rub_15 : decode cX1_rub 15 = .ok (.isub, 1) := by decide +kernel
theorem dX1_rub_16 : decode cX1_rub 16 = .ok (.putfield 33, 3) := by decide +kernel
theorem dX1_rub_19 : decode cX1_rub 19 = .ok (.aload_n 0, 1) := by decide +kernel
theorem dX1_rub_20 : decode cX1_rub 20 = .ok (.getfield 13, 3) := by decide +kernel
theorem dX1_rub_23 : decode cX1_rub 23 = .ok (.aload_n 0, 1) := by decide +kernel
theorem dX1_rub_24 : decode cX1_rub 24 = .ok (.getfield 33, 3) := by decide +kernel
theorem dX1_rub_27 : decode cX1_rub 27 = .ok (.iaload, 1) := by decide +kernel
theorem dX1_rub_28 : decode cX1_rub 28 = .ok (.ireturn, 1) := by decide +kernel
abbrev cX1_frames : ByteArray := prog_3_method_9_code
def yX1_frames : MethodName := ⟨RX1, "frames", "()I"⟩
theorem dX1_frames_0 : decode cX1_frames 0 = .ok (.aload_n 0, 1) := by decide +kernel
theorem dX1_frames_1 : decode cX1_frames 1 = .ok (.getfield 22, 3) := by decide +kernel
theorem dX1_frames_4 : decode cX1_frames 4 = .ok (.ireturn, 1) := by decide +kernel
abbrev cX1_length : ByteArray := prog_3_method_10_code
def yX1_length : MethodName := ⟨RX1, "length", "()I"⟩
theorem dX1_length_0 : decode cX1_length 0 = .ok (.aload_n 0, 1) := by decide +kernel
theorem dX1_length_1 : decode cX1_length 1 = .ok (.getfield 33, 3) := by decide +kernel
theorem dX1_length_4 : decode cX1_length 4 = .ok (.ireturn, 1) := by decide +kernel
abbrev cX1_total : ByteArray := prog_3_method_15_code
def yX1_total : MethodName := ⟨RX1, "total", "()I"⟩
theorem dX1_total_0 : decode cX1_total 0 = .ok (.iconst 0, 1) := by decide +kernel
theorem dX1_total_1 : decode cX1_total 1 = .ok (.istore_n 1, 1) := by decide +kernel
theorem dX1_total_2 : decode cX1_total 2 = .ok (.iconst 0, 1) := by decide +kernel
theorem dX1_total_3 : decode cX1_total 3 = .ok (.istore_n 2, 1) := by decide +kernel
theorem dX1_total_4 : decode cX1_total 4 = .ok (.iload_n 2, 1) := by decide +kernel
theorem dX1_total_5 : decode cX1_total 5 = .ok (.aload_n 0, 1) := by decide +kernel
theorem dX1_total_6 : decode cX1_total 6 = .ok (.invokevirtual 40, 3) := by decide +kernel
theorem dX1_total_9 : decode cX1_total 9 = .ok (.if_icmp .ge 31, 3) := by decide +kernel
theorem dX1_total_12 : decode cX1_total 12 = .ok (.aload_n 0, 1) := by decide +kernel
theorem dX1_total_13 : decode cX1_total 13 = .ok (.iload_n 2, 1) := by decide +kernel
theorem dX1_total_14 : decode cX1_total 14 = .ok (.invokevirtual 43, 3) := by decide +kernel
theorem dX1_total_17 : decode cX1_total 17 = .ok (.istore_n 3, 1) := by decide +kernel
theorem dX1_total_18 : decode cX1_total 18 = .ok (.aload_n 0, 1) := by decide +kernel
theorem dX1_total_19 : decode cX1_total 19 = .ok (.iconst 0, 1) := by decide +kernel
theorem dX1_total_20 : decode cX1_total 20 = .ok (.invokevirtual 47, 3) := by decide +kernel
theorem dX1_total_23 : decode cX1_total 23 = .ok (.ifCond .eq 9, 3) := by decide +kernel
theorem dX1_total_26 : decode cX1_total 26 = .ok (.iload_n 1, 1) := by decide +kernel
theorem dX1_total_27 : decode cX1_total 27 = .ok (.iload_n 3, 1) := by decide +kernel
theorem dX1_total_28 : decode cX1_total 28 = .ok (.iadd, 1) := by decide +kernel
theorem dX1_total_29 : decode cX1_total 29 = .ok (.goto 4, 3) := by decide +kernel
theorem dX1_total_32 : decode cX1_total 32 = .ok (.iload_n 1, 1) := by decide +kernel
theorem dX1_total_33 : decode cX1_total 33 = .ok (.istore_n 1, 1) := by decide +kernel
theorem dX1_total_34 : decode cX1_total 34 = .ok (.iinc 2 1, 3) := by decide +kernel
theorem dX1_total_37 : decode cX1_total 37 = .ok (.goto (-33), 3) := by decide +kernel
theorem dX1_total_40 : decode cX1_total 40 = .ok (.iload_n 1, 1) := by decide +kernel
theorem dX1_total_41 : decode cX1_total 41 = .ok (.ireturn, 1) := by decide +kernel
abbrev cX1_all : ByteArray := prog_3_method_14_code
def yX1_all : MethodName := ⟨RX1, "all", "()I"⟩
theorem dX1_all_0 : decode cX1_all 0 = .ok (.iconst 1, 1) := by decide +kernel
theorem dX1_all_1 : decode cX1_all 1 = .ok (.iconst 2, 1) := by decide +kernel
theorem dX1_all_2 : decode cX1_all 2 = .ok (.aload_n 0, 1) := by decide +kernel
theorem dX1_all_3 : decode cX1_all 3 = .ok (.getfield 22, 3) := by decide +kernel
theorem dX1_all_6 : decode cX1_all 6 = .ok (.imul, 1) := by decide +kernel
theorem dX1_all_7 : decode cX1_all 7 = .ok (.ishl, 1) := by decide +kernel
theorem dX1_all_8 : decode cX1_all 8 = .ok (.ireturn, 1) := by decide +kernel
abbrev cX1_spell : ByteArray := prog_3_method_11_code
def yX1_spell : MethodName := ⟨RX1, "spell", "(I)I"⟩
theorem dX1_spell_0 : decode cX1_spell 0 = .ok (.iconst 1, 1) := by decide +kernel
theorem dX1_spell_1 : decode cX1_spell 1 = .ok (.istore_n 2, 1) := by decide +kernel
theorem dX1_spell_2 : decode cX1_spell 2 = .ok (.iconst 0, 1) := by decide +kernel
theorem dX1_spell_3 : decode cX1_spell 3 = .ok (.istore_n 3, 1) := by decide +kernel
theorem dX1_spell_4 : decode cX1_spell 4 = .ok (.iload_n 3, 1) := by decide +kernel
theorem dX1_spell_5 : decode cX1_spell 5 = .ok (.aload_n 0, 1) := by decide +kernel
theorem dX1_spell_6 : decode cX1_spell 6 = .ok (.getfield 22, 3) := by decide +kernel
theorem dX1_spell_9 : decode cX1_spell 9 = .ok (.if_icmp .ge 47, 3) := by decide +kernel
theorem dX1_spell_12 : decode cX1_spell 12 = .ok (.aload_n 0, 1) := by decide +kernel
theorem dX1_spell_13 : decode cX1_spell 13 = .ok (.getfield 16, 3) := by decide +kernel
theorem dX1_spell_16 : decode cX1_spell 16 = .ok (.iload_n 3, 1) := by decide +kernel
theorem dX1_spell_17 : decode cX1_spell 17 = .ok (.iload_n 1, 1) := by decide +kernel
theorem dX1_spell_18 : decode cX1_spell 18 = .ok (.iconst 2, 1) := by decide +kernel
theorem dX1_spell_19 : decode cX1_spell 19 = .ok (.aload_n 0, 1) := by decide +kernel
theorem dX1_spell_20 : decode cX1_spell 20 = .ok (.getfield 22, 3) := by decide +kernel
theorem dX1_spell_23 : decode cX1_spell 23 = .ok (.iconst 1, 1) := by decide +kernel
theorem dX1_spell_24 : decode cX1_spell 24 = .ok (.isub, 1) := by decide +kernel
theorem dX1_spell_25 : decode cX1_spell 25 = .ok (.iload_n 3, 1) := by decide +kernel
theorem dX1_spell_26 : decode cX1_spell 26 = .ok (.isub, 1) := by decide +kernel
theorem dX1_spell_27 : decode cX1_spell 27 = .ok (.imul, 1) := by decide +kernel
theorem dX1_spell_28 : decode cX1_spell 28 = .ok (.ishr, 1) := by decide +kernel
theorem dX1_spell_29 : decode cX1_spell 29 = .ok (.iconst 3, 1) := by decide +kernel
theorem dX1_spell_30 : decode cX1_spell 30 = .ok (.iand, 1) := by decide +kernel
theorem dX1_spell_31 : decode cX1_spell 31 = .ok (.iastore, 1) := by decide +kernel
theorem dX1_spell_32 : decode cX1_spell 32 = .ok (.iload_n 2, 1) := by decide +kernel
theorem dX1_spell_33 : decode cX1_spell 33 = .ok (.aload_n 0, 1) := by decide +kernel
theorem dX1_spell_34 : decode cX1_spell 34 = .ok (.getfield 7, 3) := by decide +kernel
theorem dX1_spell_37 : decode cX1_spell 37 = .ok (.iconst 4, 1) := by decide +kernel
theorem dX1_spell_38 : decode cX1_spell 38 = .ok (.iload_n 3, 1) := by decide +kernel
theorem dX1_spell_39 : decode cX1_spell 39 = .ok (.imul, 1) := by decide +kernel
theorem dX1_spell_40 : decode cX1_spell 40 = .ok (.aload_n 0, 1) := by decide +kernel
theorem dX1_spell_41 : decode cX1_spell 41 = .ok (.getfield 16, 3) := by decide +kernel
theorem dX1_spell_44 : decode cX1_spell 44 = .ok (.iload_n 3, 1) := by decide +kernel
theorem dX1_spell_45 : decode cX1_spell 45 = .ok (.iaload, 1) := by decide +kernel
theorem dX1_spell_46 : decode cX1_spell 46 = .ok (.iadd, 1) := by decide +kernel
theorem dX1_spell_47 : decode cX1_spell 47 = .ok (.iaload, 1) := by decide +kernel
theorem dX1_spell_48 : decode cX1_spell 48 = .ok (.imul, 1) := by decide +kernel
theorem dX1_spell_49 : decode cX1_spell 49 = .ok (.istore_n 2, 1) := by decide +kernel
theorem dX1_spell_50 : decode cX1_spell 50 = .ok (.iinc 3 1, 3) := by decide +kernel
theorem dX1_spell_53 : decode cX1_spell 53 = .ok (.goto (-49), 3) := by decide +kernel
theorem dX1_spell_56 : decode cX1_spell 56 = .ok (.iload_n 2, 1) := by decide +kernel
theorem dX1_spell_57 : decode cX1_spell 57 = .ok (.ireturn, 1) := by decide +kernel
abbrev cX1_fits : ByteArray := prog_3_method_13_code
def yX1_fits : MethodName := ⟨RX1, "fits", "(Z)Z"⟩
theorem dX1_fits_0 : decode cX1_fits 0 = .ok (.aload_n 0, 1) := by decide +kernel
theorem dX1_fits_1 : decode cX1_fits 1 = .ok (.invokevirtual 36, 3) := by decide +kernel
theorem dX1_fits_4 : decode cX1_fits 4 = .ok (.istore_n 2, 1) := by decide +kernel
theorem dX1_fits_5 : decode cX1_fits 5 = .ok (.iload_n 1, 1) := by decide +kernel
theorem dX1_fits_6 : decode cX1_fits 6 = .ok (.ifCond .eq 19, 3) := by decide +kernel
theorem dX1_fits_9 : decode cX1_fits 9 = .ok (.iload_n 2, 1) := by decide +kernel
theorem dX1_fits_10 : decode cX1_fits 10 = .ok (.aload_n 0, 1) := by decide +kernel
theorem dX1_fits_11 : decode cX1_fits 11 = .ok (.getfield 33, 3) := by decide +kernel
theorem dX1_fits_14 : decode cX1_fits 14 = .ok (.if_icmp .lt 7, 3) := by decide +kernel
theorem dX1_fits_17 : decode cX1_fits 17 = .ok (.iconst 1, 1) := by decide +kernel
theorem dX1_fits_18 : decode cX1_fits 18 = .ok (.goto 20, 3) := by decide +kernel
theorem dX1_fits_21 : decode cX1_fits 21 = .ok (.iconst 0, 1) := by decide +kernel
theorem dX1_fits_22 : decode cX1_fits 22 = .ok (.goto 16, 3) := by decide +kernel
theorem dX1_fits_25 : decode cX1_fits 25 = .ok (.iload_n 2, 1) := by decide +kernel
theorem dX1_fits_26 : decode cX1_fits 26 = .ok (.aload_n 0, 1) := by decide +kernel
theorem dX1_fits_27 : decode cX1_fits 27 = .ok (.getfield 33, 3) := by decide +kernel
theorem dX1_fits_30 : decode cX1_fits 30 = .ok (.if_icmp .ne 7, 3) := by decide +kernel
theorem dX1_fits_33 : decode cX1_fits 33 = .ok (.iconst 1, 1) := by decide +kernel
theorem dX1_fits_34 : decode cX1_fits 34 = .ok (.goto 4, 3) := by decide +kernel
theorem dX1_fits_37 : decode cX1_fits 37 = .ok (.iconst 0, 1) := by decide +kernel
theorem dX1_fits_38 : decode cX1_fits 38 = .ok (.istore_n 3, 1) := by decide +kernel
theorem dX1_fits_39 : decode cX1_fits 39 = .ok (.iconst 0, 1) := by decide +kernel
theorem dX1_fits_40 : decode cX1_fits 40 = .ok (.istore 4, 2) := by decide +kernel
theorem dX1_fits_42 : decode cX1_fits 42 = .ok (.iload 4, 2) := by decide +kernel
theorem dX1_fits_44 : decode cX1_fits 44 = .ok (.aload_n 0, 1) := by decide +kernel
theorem dX1_fits_45 : decode cX1_fits 45 = .ok (.getfield 33, 3) := by decide +kernel
theorem dX1_fits_48 : decode cX1_fits 48 = .ok (.if_icmp .ge 36, 3) := by decide +kernel
theorem dX1_fits_51 : decode cX1_fits 51 = .ok (.iload_n 3, 1) := by decide +kernel
theorem dX1_fits_52 : decode cX1_fits 52 = .ok (.ifCond .eq 32, 3) := by decide +kernel
theorem dX1_fits_55 : decode cX1_fits 55 = .ok (.aload_n 0, 1) := by decide +kernel
theorem dX1_fits_56 : decode cX1_fits 56 = .ok (.getfield 19, 3) := by decide +kernel
theorem dX1_fits_59 : decode cX1_fits 59 = .ok (.iload 4, 2) := by decide +kernel
theorem dX1_fits_61 : decode cX1_fits 61 = .ok (.iaload, 1) := by decide +kernel
theorem dX1_fits_62 : decode cX1_fits 62 = .ok (.aload_n 0, 1) := by decide +kernel
theorem dX1_fits_63 : decode cX1_fits 63 = .ok (.getfield 13, 3) := by decide +kernel
theorem dX1_fits_66 : decode cX1_fits 66 = .ok (.iload 4, 2) := by decide +kernel
theorem dX1_fits_68 : decode cX1_fits 68 = .ok (.iaload, 1) := by decide +kernel
theorem dX1_fits_69 : decode cX1_fits 69 = .ok (.if_icmp .ne 7, 3) := by decide +kernel
theorem dX1_fits_72 : decode cX1_fits 72 = .ok (.iconst 1, 1) := by decide +kernel
theorem dX1_fits_73 : decode cX1_fits 73 = .ok (.goto 4, 3) := by decide +kernel
theorem dX1_fits_76 : decode cX1_fits 76 = .ok (.iconst 0, 1) := by decide +kernel
theorem dX1_fits_77 : decode cX1_fits 77 = .ok (.istore_n 3, 1) := by decide +kernel
theorem dX1_fits_78 : decode cX1_fits 78 = .ok (.iinc 4 1, 3) := by decide +kernel
theorem dX1_fits_81 : decode cX1_fits 81 = .ok (.goto (-39), 3) := by decide +kernel
theorem dX1_fits_84 : decode cX1_fits 84 = .ok (.iload_n 3, 1) := by decide +kernel
theorem dX1_fits_85 : decode cX1_fits 85 = .ok (.ireturn, 1) := by decide +kernel
abbrev cX1_reads : ByteArray := prog_3_method_12_code
def yX1_reads : MethodName := ⟨RX1, "reads", "()I"⟩
theorem dX1_reads_0 : decode cX1_reads 0 = .ok (.iconst 0, 1) := by decide +kernel
theorem dX1_reads_1 : decode cX1_reads 1 = .ok (.istore_n 1, 1) := by decide +kernel
theorem dX1_reads_2 : decode cX1_reads 2 = .ok (.iconst 0, 1) := by decide +kernel
theorem dX1_reads_3 : decode cX1_reads 3 = .ok (.istore_n 2, 1) := by decide +kernel
theorem dX1_reads_4 : decode cX1_reads 4 = .ok (.iload_n 2, 1) := by decide +kernel
theorem dX1_reads_5 : decode cX1_reads 5 = .ok (.aload_n 0, 1) := by decide +kernel
theorem dX1_reads_6 : decode cX1_reads 6 = .ok (.getfield 22, 3) := by decide +kernel
theorem dX1_reads_9 : decode cX1_reads 9 = .ok (.if_icmp .ge 64, 3) := by decide +kernel
theorem dX1_reads_12 : decode cX1_reads 12 = .ok (.iload_n 2, 1) := by decide +kernel
theorem dX1_reads_13 : decode cX1_reads 13 = .ok (.ifCond .eq 20, 3) := by decide +kernel
theorem dX1_reads_16 : decode cX1_reads 16 = .ok (.aload_n 0, 1) := by decide +kernel
theorem dX1_reads_17 : decode cX1_reads 17 = .ok (.getfield 16, 3) := by decide +kernel
theorem dX1_reads_20 : decode cX1_reads 20 = .ok (.iload_n 2, 1) := by decide +kernel
theorem dX1_reads_21 : decode cX1_reads 21 = .ok (.iaload, 1) := by decide +kernel
theorem dX1_reads_22 : decode cX1_reads 22 = .ok (.aload_n 0, 1) := by decide +kernel
theorem dX1_reads_23 : decode cX1_reads 23 = .ok (.getfield 16, 3) := by decide +kernel
theorem dX1_reads_26 : decode cX1_reads 26 = .ok (.iload_n 2, 1) := by decide +kernel
theorem dX1_reads_27 : decode cX1_reads 27 = .ok (.iconst 1, 1) := by decide +kernel
theorem dX1_reads_28 : decode cX1_reads 28 = .ok (.isub, 1) := by decide +kernel
theorem dX1_reads_29 : decode cX1_reads 29 = .ok (.iaload, 1) := by decide +kernel
theorem dX1_reads_30 : decode cX1_reads 30 = .ok (.if_icmp .eq 7, 3) := by decide +kernel
theorem dX1_reads_33 : decode cX1_reads 33 = .ok (.iconst 1, 1) := by decide +kernel
theorem dX1_reads_34 : decode cX1_reads 34 = .ok (.goto 4, 3) := by decide +kernel
theorem dX1_reads_37 : decode cX1_reads 37 = .ok (.iconst 0, 1) := by decide +kernel
theorem dX1_reads_38 : decode cX1_reads 38 = .ok (.istore_n 3, 1) := by decide +kernel
theorem dX1_reads_39 : decode cX1_reads 39 = .ok (.iload_n 3, 1) := by decide +kernel
theorem dX1_reads_40 : decode cX1_reads 40 = .ok (.ifCond .eq 27, 3) := by decide +kernel
theorem dX1_reads_43 : decode cX1_reads 43 = .ok (.aload_n 0, 1) := by decide +kernel
theorem dX1_reads_44 : decode cX1_reads 44 = .ok (.getfield 16, 3) := by decide +kernel
theorem dX1_reads_47 : decode cX1_reads 47 = .ok (.iload_n 2, 1) := by decide +kernel
theorem dX1_reads_48 : decode cX1_reads 48 = .ok (.iaload, 1) := by decide +kernel
theorem dX1_reads_49 : decode cX1_reads 49 = .ok (.ifCond .eq 18, 3) := by decide +kernel
theorem dX1_reads_52 : decode cX1_reads 52 = .ok (.aload_n 0, 1) := by decide +kernel
theorem dX1_reads_53 : decode cX1_reads 53 = .ok (.getfield 19, 3) := by decide +kernel
theorem dX1_reads_56 : decode cX1_reads 56 = .ok (.iload_n 1, 1) := by decide +kernel
theorem dX1_reads_57 : decode cX1_reads 57 = .ok (.aload_n 0, 1) := by decide +kernel
theorem dX1_reads_58 : decode cX1_reads 58 = .ok (.getfield 16, 3) := by decide +kernel
theorem dX1_reads_61 : decode cX1_reads 61 = .ok (.iload_n 2, 1) := by decide +kernel
theorem dX1_reads_62 : decode cX1_reads 62 = .ok (.iaload, 1) := by decide +kernel
theorem dX1_reads_63 : decode cX1_reads 63 = .ok (.iastore, 1) := by decide +kernel
theorem dX1_reads_64 : decode cX1_reads 64 = .ok (.iinc 1 1, 3) := by decide +kernel
theorem dX1_reads_67 : decode cX1_reads 67 = .ok (.iinc 2 1, 3) := by decide +kernel
theorem dX1_reads_70 : decode cX1_reads 70 = .ok (.goto (-66), 3) := by decide +kernel
theorem dX1_reads_73 : decode cX1_reads 73 = .ok (.iload_n 1, 1) := by decide +kernel
theorem dX1_reads_74 : decode cX1_reads 74 = .ok (.ireturn, 1) := by decide +kernel
abbrev cX1_paths : ByteArray := prog_3_method_16_code
def yX1_paths : MethodName := ⟨RX1, "paths", "()I"⟩
theorem dX1_paths_0 : decode cX1_paths 0 = .ok (.iconst 0, 1) := by decide +kernel
theorem dX1_paths_1 : decode cX1_paths 1 = .ok (.istore_n 1, 1) := by decide +kernel
theorem dX1_paths_2 : decode cX1_paths 2 = .ok (.iconst 0, 1) := by decide +kernel
theorem dX1_paths_3 : decode cX1_paths 3 = .ok (.istore_n 2, 1) := by decide +kernel
theorem dX1_paths_4 : decode cX1_paths 4 = .ok (.iload_n 2, 1) := by decide +kernel
theorem dX1_paths_5 : decode cX1_paths 5 = .ok (.aload_n 0, 1) := by decide +kernel
theorem dX1_paths_6 : decode cX1_paths 6 = .ok (.invokevirtual 40, 3) := by decide +kernel
theorem dX1_paths_9 : decode cX1_paths 9 = .ok (.if_icmp .ge 31, 3) := by decide +kernel
theorem dX1_paths_12 : decode cX1_paths 12 = .ok (.aload_n 0, 1) := by decide +kernel
theorem dX1_paths_13 : decode cX1_paths 13 = .ok (.iload_n 2, 1) := by decide +kernel
theorem dX1_paths_14 : decode cX1_paths 14 = .ok (.invokevirtual 43, 3) := by decide +kernel
theorem dX1_paths_17 : decode cX1_paths 17 = .ok (.pop, 1) := by decide +kernel
theorem dX1_paths_18 : decode cX1_paths 18 = .ok (.aload_n 0, 1) := by decide +kernel
theorem dX1_paths_19 : decode cX1_paths 19 = .ok (.iconst 0, 1) := by decide +kernel
theorem dX1_paths_20 : decode cX1_paths 20 = .ok (.invokevirtual 47, 3) := by decide +kernel
theorem dX1_paths_23 : decode cX1_paths 23 = .ok (.ifCond .eq 9, 3) := by decide +kernel
theorem dX1_paths_26 : decode cX1_paths 26 = .ok (.iload_n 1, 1) := by decide +kernel
theorem dX1_paths_27 : decode cX1_paths 27 = .ok (.iconst 1, 1) := by decide +kernel
theorem dX1_paths_28 : decode cX1_paths 28 = .ok (.iadd, 1) := by decide +kernel
theorem dX1_paths_29 : decode cX1_paths 29 = .ok (.goto 4, 3) := by decide +kernel
theorem dX1_paths_32 : decode cX1_paths 32 = .ok (.iload_n 1, 1) := by decide +kernel
theorem dX1_paths_33 : decode cX1_paths 33 = .ok (.istore_n 1, 1) := by decide +kernel
theorem dX1_paths_34 : decode cX1_paths 34 = .ok (.iinc 2 1, 3) := by decide +kernel
theorem dX1_paths_37 : decode cX1_paths 37 = .ok (.goto (-33), 3) := by decide +kernel
theorem dX1_paths_40 : decode cX1_paths 40 = .ok (.iload_n 1, 1) := by decide +kernel
theorem dX1_paths_41 : decode cX1_paths 41 = .ok (.ireturn, 1) := by decide +kernel
abbrev cX1_best : ByteArray := prog_3_method_18_code
def yX1_best : MethodName := ⟨RX1, "best", "()I"⟩
theorem dX1_best_0 : decode cX1_best 0 = .ok (.aload_n 0, 1) := by decide +kernel
theorem dX1_best_1 : decode cX1_best 1 = .ok (.invokevirtual 51, 3) := by decide +kernel
theorem dX1_best_4 : decode cX1_best 4 = .ok (.istore_n 1, 1) := by decide +kernel
theorem dX1_best_5 : decode cX1_best 5 = .ok (.iload_n 1, 1) := by decide +kernel
theorem dX1_best_6 : decode cX1_best 6 = .ok (.ifCond .ge 7, 3) := by decide +kernel
theorem dX1_best_9 : decode cX1_best 9 = .ok (.iconst 0, 1) := by decide +kernel
theorem dX1_best_10 : decode cX1_best 10 = .ok (.goto 8, 3) := by decide +kernel
theorem dX1_best_13 : decode cX1_best 13 = .ok (.aload_n 0, 1) := by decide +kernel
theorem dX1_best_14 : decode cX1_best 14 = .ok (.iload_n 1, 1) := by decide +kernel
theorem dX1_best_15 : decode cX1_best 15 = .ok (.invokevirtual 43, 3) := by decide +kernel
theorem dX1_best_18 : decode cX1_best 18 = .ok (.ireturn, 1) := by decide +kernel
abbrev cX1_first : ByteArray := prog_3_method_17_code
def yX1_first : MethodName := ⟨RX1, "first", "()I"⟩
theorem dX1_first_0 : decode cX1_first 0 = .ok (.iconst (-1), 1) := by decide +kernel
theorem dX1_first_1 : decode cX1_first 1 = .ok (.istore_n 1, 1) := by decide +kernel
theorem dX1_first_2 : decode cX1_first 2 = .ok (.iconst 0, 1) := by decide +kernel
theorem dX1_first_3 : decode cX1_first 3 = .ok (.istore_n 2, 1) := by decide +kernel
theorem dX1_first_4 : decode cX1_first 4 = .ok (.iconst 0, 1) := by decide +kernel
theorem dX1_first_5 : decode cX1_first 5 = .ok (.istore_n 3, 1) := by decide +kernel
theorem dX1_first_6 : decode cX1_first 6 = .ok (.iload_n 3, 1) := by decide +kernel
theorem dX1_first_7 : decode cX1_first 7 = .ok (.aload_n 0, 1) := by decide +kernel
theorem dX1_first_8 : decode cX1_first 8 = .ok (.invokevirtual 40, 3) := by decide +kernel
theorem dX1_first_11 : decode cX1_first 11 = .ok (.if_icmp .ge 39, 3) := by decide +kernel
theorem dX1_first_14 : decode cX1_first 14 = .ok (.aload_n 0, 1) := by decide +kernel
theorem dX1_first_15 : decode cX1_first 15 = .ok (.iload_n 3, 1) := by decide +kernel
theorem dX1_first_16 : decode cX1_first 16 = .ok (.invokevirtual 43, 3) := by decide +kernel
theorem dX1_first_19 : decode cX1_first 19 = .ok (.istore 4, 2) := by decide +kernel
theorem dX1_first_21 : decode cX1_first 21 = .ok (.aload_n 0, 1) := by decide +kernel
theorem dX1_first_22 : decode cX1_first 22 = .ok (.iconst 0, 1) := by decide +kernel
theorem dX1_first_23 : decode cX1_first 23 = .ok (.invokevirtual 47, 3) := by decide +kernel
theorem dX1_first_26 : decode cX1_first 26 = .ok (.ifCond .eq 18, 3) := by decide +kernel
theorem dX1_first_29 : decode cX1_first 29 = .ok (.iload_n 1, 1) := by decide +kernel
theorem dX1_first_30 : decode cX1_first 30 = .ok (.ifCond .lt 9, 3) := by decide +kernel
theorem dX1_first_33 : decode cX1_first 33 = .ok (.iload 4, 2) := by decide +kernel
theorem dX1_first_35 : decode cX1_first 35 = .ok (.iload_n 2, 1) := by decide +kernel
theorem dX1_first_36 : decode cX1_first 36 = .ok (.if_icmp .le 8, 3) := by decide +kernel
theorem dX1_first_39 : decode cX1_first 39 = .ok (.iload_n 3, 1) := by decide +kernel
theorem dX1_first_40 : decode cX1_first 40 = .ok (.istore_n 1, 1) := by decide +kernel
theorem dX1_first_41 : decode cX1_first 41 = .ok (.iload 4, 2) := by decide +kernel
theorem dX1_first_43 : decode cX1_first 43 = .ok (.istore_n 2, 1) := by decide +kernel
theorem dX1_first_44 : decode cX1_first 44 = .ok (.iinc 3 1, 3) := by decide +kernel
theorem dX1_first_47 : decode cX1_first 47 = .ok (.goto (-41), 3) := by decide +kernel
theorem dX1_first_50 : decode cX1_first 50 = .ok (.iload_n 1, 1) := by decide +kernel
theorem dX1_first_51 : decode cX1_first 51 = .ok (.ireturn, 1) := by decide +kernel
abbrev cX1_through : ByteArray := prog_3_method_19_code
def yX1_through : MethodName := ⟨RX1, "through", "(II)I"⟩
theorem dX1_through_0 : decode cX1_through 0 = .ok (.aload_n 0, 1) := by decide +kernel
theorem dX1_through_1 : decode cX1_through 1 = .ok (.iload_n 1, 1) := by decide +kernel
theorem dX1_through_2 : decode cX1_through 2 = .ok (.invokevirtual 26, 3) := by decide +kernel
theorem dX1_through_5 : decode cX1_through 5 = .ok (.ifCond .eq 11, 3) := by decide +kernel
theorem dX1_through_8 : decode cX1_through 8 = .ok (.aload_n 0, 1) := by decide +kernel
theorem dX1_through_9 : decode cX1_through 9 = .ok (.iload_n 2, 1) := by decide +kernel
theorem dX1_through_10 : decode cX1_through 10 = .ok (.invokevirtual 30, 3) := by decide +kernel
theorem dX1_through_13 : decode cX1_through 13 = .ok (.ifCond .ne 5, 3) := by decide +kernel
theorem dX1_through_16 : decode cX1_through 16 = .ok (.iconst (-1), 1) := by decide +kernel
theorem dX1_through_17 : decode cX1_through 17 = .ok (.ireturn, 1) := by decide +kernel
theorem dX1_through_18 : decode cX1_through 18 = .ok (.iconst 0, 1) := by decide +kernel
theorem dX1_through_19 : decode cX1_through 19 = .ok (.istore_n 3, 1) := by decide +kernel
theorem dX1_through_20 : decode cX1_through 20 = .ok (.iconst 0, 1) := by decide +kernel
theorem dX1_through_21 : decode cX1_through 21 = .ok (.istore 4, 2) := by decide +kernel
theorem dX1_through_23 : decode cX1_through 23 = .ok (.iload 4, 2) := by decide +kernel
theorem dX1_through_25 : decode cX1_through 25 = .ok (.aload_n 0, 1) := by decide +kernel
theorem dX1_through_26 : decode cX1_through 26 = .ok (.invokevirtual 40, 3) := by decide +kernel
theorem dX1_through_29 : decode cX1_through 29 = .ok (.if_icmp .ge 44, 3) := by decide +kernel
theorem dX1_through_32 : decode cX1_through 32 = .ok (.aload_n 0, 1) := by decide +kernel
theorem dX1_through_33 : decode cX1_through 33 = .ok (.iload 4, 2) := by decide +kernel
theorem dX1_through_35 : decode cX1_through 35 = .ok (.invokevirtual 43, 3) := by decide +kernel
theorem dX1_through_38 : decode cX1_through 38 = .ok (.istore 5, 2) := by decide +kernel
theorem dX1_through_40 : decode cX1_through 40 = .ok (.aload_n 0, 1) := by decide +kernel
theorem dX1_through_41 : decode cX1_through 41 = .ok (.getfield 16, 3) := by decide +kernel
theorem dX1_through_44 : decode cX1_through 44 = .ok (.iload_n 1, 1) := by decide +kernel
theorem dX1_through_45 : decode cX1_through 45 = .ok (.iaload, 1) := by decide +kernel
theorem dX1_through_46 : decode cX1_through 46 = .ok (.iload_n 2, 1) := by decide +kernel
theorem dX1_through_47 : decode cX1_through 47 = .ok (.if_icmp .ne 18, 3) := by decide +kernel
theorem dX1_through_50 : decode cX1_through 50 = .ok (.aload_n 0, 1) := by decide +kernel
theorem dX1_through_51 : decode cX1_through 51 = .ok (.iconst 0, 1) := by decide +kernel
theorem dX1_through_52 : decode cX1_through 52 = .ok (.invokevirtual 47, 3) := by decide +kernel
theorem dX1_through_55 : decode cX1_through 55 = .ok (.ifCond .eq 10, 3) := by decide +kernel
theorem dX1_through_58 : decode cX1_through 58 = .ok (.iload_n 3, 1) := by decide +kernel
theorem dX1_through_59 : decode cX1_through 59 = .ok (.iload 5, 2) := by decide +kernel
theorem dX1_through_61 : decode cX1_through 61 = .ok (.iadd, 1) := by decide +kernel
theorem dX1_through_62 : decode cX1_through 62 = .ok (.goto 4, 3) := by decide +kernel
theorem dX1_through_65 : decode cX1_through 65 = .ok (.iload_n 3, 1) := by decide +kernel
theorem dX1_through_66 : decode cX1_through 66 = .ok (.istore_n 3, 1) := by decide +kernel
theorem dX1_through_67 : decode cX1_through 67 = .ok (.iinc 4 1, 3) := by decide +kernel
theorem dX1_through_70 : decode cX1_through 70 = .ok (.goto (-47), 3) := by decide +kernel
theorem dX1_through_73 : decode cX1_through 73 = .ok (.iload_n 3, 1) := by decide +kernel
theorem dX1_through_74 : decode cX1_through 74 = .ok (.ireturn, 1) := by decide +kernel
abbrev cX1_prefix : ByteArray := prog_3_method_20_code
def yX1_prefix : MethodName := ⟨RX1, "prefix", "()I"⟩
theorem dX1_prefix_0 : decode cX1_prefix 0 = .ok (.iconst 0, 1) := by decide +kernel
theorem dX1_prefix_1 : decode cX1_prefix 1 = .ok (.istore_n 1, 1) := by decide +kernel
theorem dX1_prefix_2 : decode cX1_prefix 2 = .ok (.iconst 0, 1) := by decide +kernel
theorem dX1_prefix_3 : decode cX1_prefix 3 = .ok (.istore_n 2, 1) := by decide +kernel
theorem dX1_prefix_4 : decode cX1_prefix 4 = .ok (.iload_n 2, 1) := by decide +kernel
theorem dX1_prefix_5 : decode cX1_prefix 5 = .ok (.aload_n 0, 1) := by decide +kernel
theorem dX1_prefix_6 : decode cX1_prefix 6 = .ok (.invokevirtual 40, 3) := by decide +kernel
theorem dX1_prefix_9 : decode cX1_prefix 9 = .ok (.if_icmp .ge 31, 3) := by decide +kernel
theorem dX1_prefix_12 : decode cX1_prefix 12 = .ok (.aload_n 0, 1) := by decide +kernel
theorem dX1_prefix_13 : decode cX1_prefix 13 = .ok (.iload_n 2, 1) := by decide +kernel
theorem dX1_prefix_14 : decode cX1_prefix 14 = .ok (.invokevirtual 43, 3) := by decide +kernel
theorem dX1_prefix_17 : decode cX1_prefix 17 = .ok (.istore_n 3, 1) := by decide +kernel
theorem dX1_prefix_18 : decode cX1_prefix 18 = .ok (.aload_n 0, 1) := by decide +kernel
theorem dX1_prefix_19 : decode cX1_prefix 19 = .ok (.iconst 1, 1) := by decide +kernel
theorem dX1_prefix_20 : decode cX1_prefix 20 = .ok (.invokevirtual 47, 3) := by decide +kernel
theorem dX1_prefix_23 : decode cX1_prefix 23 = .ok (.ifCond .eq 9, 3) := by decide +kernel
theorem dX1_prefix_26 : decode cX1_prefix 26 = .ok (.iload_n 1, 1) := by decide +kernel
theorem dX1_prefix_27 : decode cX1_prefix 27 = .ok (.iload_n 3, 1) := by decide +kernel
theorem dX1_prefix_28 : decode cX1_prefix 28 = .ok (.iadd, 1) := by decide +kernel
theorem dX1_prefix_29 : decode cX1_prefix 29 = .ok (.goto 4, 3) := by decide +kernel
theorem dX1_prefix_32 : decode cX1_prefix 32 = .ok (.iload_n 1, 1) := by decide +kernel
theorem dX1_prefix_33 : decode cX1_prefix 33 = .ok (.istore_n 1, 1) := by decide +kernel
theorem dX1_prefix_34 : decode cX1_prefix 34 = .ok (.iinc 2 1, 3) := by decide +kernel
theorem dX1_prefix_37 : decode cX1_prefix 37 = .ok (.goto (-33), 3) := by decide +kernel
theorem dX1_prefix_40 : decode cX1_prefix 40 = .ok (.iload_n 1, 1) := by decide +kernel
theorem dX1_prefix_41 : decode cX1_prefix 41 = .ok (.ireturn, 1) := by decide +kernel
abbrev cX1_everything : ByteArray := prog_3_method_21_code
def yX1_everything : MethodName := ⟨RX1, "everything", "()I"⟩
theorem dX1_everything_0 : decode cX1_everything 0 = .ok (.iconst 0, 1) := by decide +kernel
theorem dX1_everything_1 : decode cX1_everything 1 = .ok (.istore_n 1, 1) := by decide +kernel
theorem dX1_everything_2 : decode cX1_everything 2 = .ok (.iconst 0, 1) := by decide +kernel
theorem dX1_everything_3 : decode cX1_everything 3 = .ok (.istore_n 2, 1) := by decide +kernel
theorem dX1_everything_4 : decode cX1_everything 4 = .ok (.iload_n 2, 1) := by decide +kernel
theorem dX1_everything_5 : decode cX1_everything 5 = .ok (.aload_n 0, 1) := by decide +kernel
theorem dX1_everything_6 : decode cX1_everything 6 = .ok (.invokevirtual 40, 3) := by decide +kernel
theorem dX1_everything_9 : decode cX1_everything 9 = .ok (.if_icmp .ge 17, 3) := by decide +kernel
theorem dX1_everything_12 : decode cX1_everything 12 = .ok (.iload_n 1, 1) := by decide +kernel
theorem dX1_everything_13 : decode cX1_everything 13 = .ok (.aload_n 0, 1) := by decide +kernel
theorem dX1_everything_14 : decode cX1_everything 14 = .ok (.iload_n 2, 1) := by decide +kernel
theorem dX1_everything_15 : decode cX1_everything 15 = .ok (.invokevirtual 43, 3) := by decide +kernel
theorem dX1_everything_18 : decode cX1_everything 18 = .ok (.iadd, 1) := by decide +kernel
theorem dX1_everything_19 : decode cX1_everything 19 = .ok (.istore_n 1, 1) := by decide +kernel
theorem dX1_everything_20 : decode cX1_everything 20 = .ok (.iinc 2 1, 3) := by decide +kernel
theorem dX1_everything_23 : decode cX1_everything 23 = .ok (.goto (-19), 3) := by decide +kernel
theorem dX1_everything_26 : decode cX1_everything 26 = .ok (.iload_n 1, 1) := by decide +kernel
theorem dX1_everything_27 : decode cX1_everything 27 = .ok (.ireturn, 1) := by decide +kernel
abbrev cX1_bestNext : ByteArray := prog_3_method_22_code
def yX1_bestNext : MethodName := ⟨RX1, "bestNext", "()I"⟩
theorem dX1_bestNext_0 : decode cX1_bestNext 0 = .ok (.iconst 0, 1) := by decide +kernel
theorem dX1_bestNext_1 : decode cX1_bestNext 1 = .ok (.istore_n 1, 1) := by decide +kernel
theorem dX1_bestNext_2 : decode cX1_bestNext 2 = .ok (.iconst 0, 1) := by decide +kernel
theorem dX1_bestNext_3 : decode cX1_bestNext 3 = .ok (.istore_n 2, 1) := by decide +kernel
theorem dX1_bestNext_4 : decode cX1_bestNext 4 = .ok (.iconst 1, 1) := by decide +kernel
theorem dX1_bestNext_5 : decode cX1_bestNext 5 = .ok (.istore_n 3, 1) := by decide +kernel
theorem dX1_bestNext_6 : decode cX1_bestNext 6 = .ok (.iload_n 3, 1) := by decide +kernel
theorem dX1_bestNext_7 : decode cX1_bestNext 7 = .ok (.iconst 4, 1) := by decide +kernel
theorem dX1_bestNext_8 : decode cX1_bestNext 8 = .ok (.if_icmp .ge 59, 3) := by decide +kernel
theorem dX1_bestNext_11 : decode cX1_bestNext 11 = .ok (.aload_n 0, 1) := by decide +kernel
theorem dX1_bestNext_12 : decode cX1_bestNext 12 = .ok (.getfield 33, 3) := by decide +kernel
theorem dX1_bestNext_15 : decode cX1_bestNext 15 = .ok (.iconst 4, 1) := by decide +kernel
theorem dX1_bestNext_16 : decode cX1_bestNext 16 = .ok (.if_icmp .ge 51, 3) := by decide +kernel
theorem dX1_bestNext_19 : decode cX1_bestNext 19 = .ok (.aload_n 0, 1) := by decide +kernel
theorem dX1_bestNext_20 : decode cX1_bestNext 20 = .ok (.iload_n 3, 1) := by decide +kernel
theorem dX1_bestNext_21 : decode cX1_bestNext 21 = .ok (.invokevirtual 54, 3) := by decide +kernel
theorem dX1_bestNext_24 : decode cX1_bestNext 24 = .ok (.pop, 1) := by decide +kernel
theorem dX1_bestNext_25 : decode cX1_bestNext 25 = .ok (.aload_n 0, 1) := by decide +kernel
theorem dX1_bestNext_26 : decode cX1_bestNext 26 = .ok (.invokevirtual 57, 3) := by decide +kernel
theorem dX1_bestNext_29 : decode cX1_bestNext 29 = .ok (.istore 4, 2) := by decide +kernel
theorem dX1_bestNext_31 : decode cX1_bestNext 31 = .ok (.aload_n 0, 1) := by decide +kernel
theorem dX1_bestNext_32 : decode cX1_bestNext 32 = .ok (.invokevirtual 60, 3) := by decide +kernel
theorem dX1_bestNext_35 : decode cX1_bestNext 35 = .ok (.pop, 1) := by decide +kernel
theorem dX1_bestNext_36 : decode cX1_bestNext 36 = .ok (.iload 4, 2) := by decide +kernel
theorem dX1_bestNext_38 : decode cX1_bestNext 38 = .ok (.iload_n 2, 1) := by decide +kernel
theorem dX1_bestNext_39 : decode cX1_bestNext 39 = .ok (.if_icmp .le 7, 3) := by decide +kernel
theorem dX1_bestNext_42 : decode cX1_bestNext 42 = .ok (.iload_n 3, 1) := by decide +kernel
theorem dX1_bestNext_43 : decode cX1_bestNext 43 = .ok (.goto 4, 3) := by decide +kernel
theorem dX1_bestNext_46 : decode cX1_bestNext 46 = .ok (.iload_n 1, 1) := by decide +kernel
theorem dX1_bestNext_47 : decode cX1_bestNext 47 = .ok (.istore_n 1, 1) := by decide +kernel
theorem dX1_bestNext_48 : decode cX1_bestNext 48 = .ok (.iload 4, 2) := by decide +kernel
theorem dX1_bestNext_50 : decode cX1_bestNext 50 = .ok (.iload_n 2, 1) := by decide +kernel
theorem dX1_bestNext_51 : decode cX1_bestNext 51 = .ok (.if_icmp .le 8, 3) := by decide +kernel
theorem dX1_bestNext_54 : decode cX1_bestNext 54 = .ok (.iload 4, 2) := by decide +kernel
theorem dX1_bestNext_56 : decode cX1_bestNext 56 = .ok (.goto 4, 3) := by decide +kernel
theorem dX1_bestNext_59 : decode cX1_bestNext 59 = .ok (.iload_n 2, 1) := by decide +kernel
theorem dX1_bestNext_60 : decode cX1_bestNext 60 = .ok (.istore_n 2, 1) := by decide +kernel
theorem dX1_bestNext_61 : decode cX1_bestNext 61 = .ok (.iinc 3 1, 3) := by decide +kernel
theorem dX1_bestNext_64 : decode cX1_bestNext 64 = .ok (.goto (-58), 3) := by decide +kernel
theorem dX1_bestNext_67 : decode cX1_bestNext 67 = .ok (.iload_n 1, 1) := by decide +kernel
theorem dX1_bestNext_68 : decode cX1_bestNext 68 = .ok (.ireturn, 1) := by decide +kernel
abbrev cX1_bestAt : ByteArray := prog_3_method_23_code
def yX1_bestAt : MethodName := ⟨RX1, "bestAt", "(I)I"⟩
theorem dX1_bestAt_0 : decode cX1_bestAt 0 = .ok (.aload_n 0, 1) := by decide +kernel
theorem dX1_bestAt_1 : decode cX1_bestAt 1 = .ok (.invokevirtual 51, 3) := by decide +kernel
theorem dX1_bestAt_4 : decode cX1_bestAt 4 = .ok (.istore_n 2, 1) := by decide +kernel
theorem dX1_bestAt_5 : decode cX1_bestAt 5 = .ok (.iload_n 2, 1) := by decide +kernel
theorem dX1_bestAt_6 : decode cX1_bestAt 6 = .ok (.ifCond .lt 11, 3) := by decide +kernel
theorem dX1_bestAt_9 : decode cX1_bestAt 9 = .ok (.aload_n 0, 1) := by decide +kernel
theorem dX1_bestAt_10 : decode cX1_bestAt 10 = .ok (.iload_n 1, 1) := by decide +kernel
theorem dX1_bestAt_11 : decode cX1_bestAt 11 = .ok (.invokevirtual 26, 3) := by decide +kernel
theorem dX1_bestAt_14 : decode cX1_bestAt 14 = .ok (.ifCond .ne 5, 3) := by decide +kernel
theorem dX1_bestAt_17 : decode cX1_bestAt 17 = .ok (.iconst (-1), 1) := by decide +kernel
theorem dX1_bestAt_18 : decode cX1_bestAt 18 = .ok (.ireturn, 1) := by decide +kernel
theorem dX1_bestAt_19 : decode cX1_bestAt 19 = .ok (.aload_n 0, 1) := by decide +kernel
theorem dX1_bestAt_20 : decode cX1_bestAt 20 = .ok (.iload_n 2, 1) := by decide +kernel
theorem dX1_bestAt_21 : decode cX1_bestAt 21 = .ok (.invokevirtual 43, 3) := by decide +kernel
theorem dX1_bestAt_24 : decode cX1_bestAt 24 = .ok (.pop, 1) := by decide +kernel
theorem dX1_bestAt_25 : decode cX1_bestAt 25 = .ok (.aload_n 0, 1) := by decide +kernel
theorem dX1_bestAt_26 : decode cX1_bestAt 26 = .ok (.getfield 16, 3) := by decide +kernel
theorem dX1_bestAt_29 : decode cX1_bestAt 29 = .ok (.iload_n 1, 1) := by decide +kernel
theorem dX1_bestAt_30 : decode cX1_bestAt 30 = .ok (.iaload, 1) := by decide +kernel
theorem dX1_bestAt_31 : decode cX1_bestAt 31 = .ok (.ireturn, 1) := by decide +kernel
theorem q20 : (Jvm.Cond.initialized "AlignmentDeskModel") ∈ lw_all := lw_g (lw_at lw_m1 2 rfl) rfl
theorem q168 : (Jvm.Cond.instantiable "AlignmentDeskModel" (6 : Nat)) ∈ lw_all := lw_g (lw_at lw_m1 150 rfl) rfl
theorem q170 : (Jvm.Cond.instanceMethod ({ cls := "AlignmentDeskModel", name := "<init>", desc := "()V" } : Jvm.MethodName)) ∈ lw_all := lw_g (lw_at lw_m1 152 rfl) rfl
theorem q171 : (Jvm.Cond.code ({ cls := "AlignmentDeskModel", name := "<init>", desc := "()V" } : Jvm.MethodName) prog_3_method_1_code (1 : Nat) (Option.none : Option Jvm.ClassFile.FieldType)) ∈ lw_all := lw_g (lw_at lw_m1 153 rfl) rfl
theorem q172 : (Jvm.Cond.methodLink "AlignmentDeskModel" (1 : Nat) ({ cls := "java/lang/Object", name := "<init>", desc := "()V" } : Jvm.MethodName)) ∈ lw_all := lw_g (lw_at lw_m1 154 rfl) rfl
theorem q173 : (Jvm.Cond.fieldLink "AlignmentDeskModel" (22 : Nat) "AlignmentDeskModel" "size" "I") ∈ lw_all := lw_g (lw_at lw_m1 155 rfl) rfl
theorem q174 : (Jvm.Cond.fieldLink "AlignmentDeskModel" (7 : Nat) "AlignmentDeskModel" "weights" "[I") ∈ lw_all := lw_g (lw_at lw_m1 156 rfl) rfl
theorem q175 : (Jvm.Cond.fieldLink "AlignmentDeskModel" (33 : Nat) "AlignmentDeskModel" "many" "I") ∈ lw_all := lw_g (lw_at lw_m1 157 rfl) rfl
theorem q176 : (Jvm.Cond.fieldLink "AlignmentDeskModel" (13 : Nat) "AlignmentDeskModel" "label" "[I") ∈ lw_all := lw_g (lw_at lw_m1 158 rfl) rfl
theorem q177 : (Jvm.Cond.fieldLink "AlignmentDeskModel" (16 : Nat) "AlignmentDeskModel" "path" "[I") ∈ lw_all := lw_g (lw_at lw_m1 159 rfl) rfl
theorem q178 : (Jvm.Cond.fieldLink "AlignmentDeskModel" (19 : Nat) "AlignmentDeskModel" "read" "[I") ∈ lw_all := lw_g (lw_at lw_m1 160 rfl) rfl
theorem q179 : (Jvm.Cond.lays "AlignmentDeskModel" "AlignmentDeskModel" "size" "I") ∈ lw_all := lw_g (lw_at lw_m1 161 rfl) rfl
theorem q180 : (Jvm.Cond.soleField "AlignmentDeskModel" "size") ∈ lw_all := lw_g (lw_at lw_m1 162 rfl) rfl
theorem q181 : (Jvm.Cond.lays "AlignmentDeskModel" "AlignmentDeskModel" "weights" "[I") ∈ lw_all := lw_g (lw_at lw_m1 163 rfl) rfl
theorem q182 : (Jvm.Cond.soleField "AlignmentDeskModel" "weights") ∈ lw_all := lw_g (lw_at lw_m1 164 rfl) rfl
theorem q183 : (Jvm.Cond.lays "AlignmentDeskModel" "AlignmentDeskModel" "many" "I") ∈ lw_all := lw_g (lw_at lw_m1 165 rfl) rfl
theorem q184 : (Jvm.Cond.soleField "AlignmentDeskModel" "many") ∈ lw_all := lw_g (lw_at lw_m1 166 rfl) rfl
theorem q185 : (Jvm.Cond.lays "AlignmentDeskModel" "AlignmentDeskModel" "label" "[I") ∈ lw_all := lw_g (lw_at lw_m1 167 rfl) rfl
theorem q186 : (Jvm.Cond.soleField "AlignmentDeskModel" "label") ∈ lw_all := lw_g (lw_at lw_m1 168 rfl) rfl
theorem q187 : (Jvm.Cond.lays "AlignmentDeskModel" "AlignmentDeskModel" "path" "[I") ∈ lw_all := lw_g (lw_at lw_m1 169 rfl) rfl
theorem q188 : (Jvm.Cond.soleField "AlignmentDeskModel" "path") ∈ lw_all := lw_g (lw_at lw_m1 170 rfl) rfl
theorem q189 : (Jvm.Cond.lays "AlignmentDeskModel" "AlignmentDeskModel" "read" "[I") ∈ lw_all := lw_g (lw_at lw_m1 171 rfl) rfl
theorem q190 : (Jvm.Cond.soleField "AlignmentDeskModel" "read") ∈ lw_all := lw_g (lw_at lw_m1 172 rfl) rfl
theorem q191 : (Jvm.Cond.superclass "AlignmentDeskModel" "java/lang/Object") ∈ lw_all := lw_g (lw_at lw_m1 173 rfl) rfl
theorem q193 : (Jvm.Cond.instanceMethod ({ cls := "AlignmentDeskModel", name := "frame", desc := "(I)I" } : Jvm.MethodName)) ∈ lw_all := lw_g (lw_at lw_m1 175 rfl) rfl
theorem q194 : (Jvm.Cond.selects "AlignmentDeskModel" ({ cls := "AlignmentDeskModel", name := "frame", desc := "(I)I" } : Jvm.MethodName) ({ cls := "AlignmentDeskModel", name := "frame", desc := "(I)I" } : Jvm.MethodName)) ∈ lw_all := lw_g (lw_at lw_m1 176 rfl) rfl
theorem q195 : (Jvm.Cond.code ({ cls := "AlignmentDeskModel", name := "frame", desc := "(I)I" } : Jvm.MethodName) prog_3_method_2_code (5 : Nat) (Option.some Jvm.ClassFile.FieldType.int)) ∈ lw_all := lw_g (lw_at lw_m1 177 rfl) rfl
theorem q197 : (Jvm.Cond.instanceMethod ({ cls := "AlignmentDeskModel", name := "dropFrame", desc := "()I" } : Jvm.MethodName)) ∈ lw_all := lw_g (lw_at lw_m1 179 rfl) rfl
theorem q198 : (Jvm.Cond.selects "AlignmentDeskModel" ({ cls := "AlignmentDeskModel", name := "dropFrame", desc := "()I" } : Jvm.MethodName) ({ cls := "AlignmentDeskModel", name := "dropFrame", desc := "()I" } : Jvm.MethodName)) ∈ lw_all := lw_g (lw_at lw_m1 180 rfl) rfl
theorem q199 : (Jvm.Cond.code ({ cls := "AlignmentDeskModel", name := "dropFrame", desc := "()I" } : Jvm.MethodName) prog_3_method_3_code (1 : Nat) (Option.some Jvm.ClassFile.FieldType.int)) ∈ lw_all := lw_g (lw_at lw_m1 181 rfl) rfl
theorem q201 : (Jvm.Cond.instanceMethod ({ cls := "AlignmentDeskModel", name := "weigh", desc := "(III)Z" } : Jvm.MethodName)) ∈ lw_all := lw_g (lw_at lw_m1 183 rfl) rfl
theorem q202 : (Jvm.Cond.selects "AlignmentDeskModel" ({ cls := "AlignmentDeskModel", name := "weigh", desc := "(III)Z" } : Jvm.MethodName) ({ cls := "AlignmentDeskModel", name := "weigh", desc := "(III)Z" } : Jvm.MethodName)) ∈ lw_all := lw_g (lw_at lw_m1 184 rfl) rfl
theorem q203 : (Jvm.Cond.code ({ cls := "AlignmentDeskModel", name := "weigh", desc := "(III)Z" } : Jvm.MethodName) prog_3_method_6_code (4 : Nat) (Option.some Jvm.ClassFile.FieldType.boolean)) ∈ lw_all := lw_g (lw_at lw_m1 185 rfl) rfl
theorem q204 : (Jvm.Cond.methodLink "AlignmentDeskModel" (26 : Nat) ({ cls := "AlignmentDeskModel", name := "is", desc := "(I)Z" } : Jvm.MethodName)) ∈ lw_all := lw_g (lw_at lw_m1 186 rfl) rfl
theorem q205 : (Jvm.Cond.privateMethod ({ cls := "AlignmentDeskModel", name := "is", desc := "(I)Z" } : Jvm.MethodName)) ∈ lw_tbl := lw_at lw_m1 187 rfl
theorem q206 : (Jvm.Cond.instanceMethod ({ cls := "AlignmentDeskModel", name := "is", desc := "(I)Z" } : Jvm.MethodName)) ∈ lw_all := lw_g (lw_at lw_m1 188 rfl) rfl
theorem q207 : (Jvm.Cond.code ({ cls := "AlignmentDeskModel", name := "is", desc := "(I)Z" } : Jvm.MethodName) prog_3_method_5_code (2 : Nat) (Option.some Jvm.ClassFile.FieldType.boolean)) ∈ lw_all := lw_g (lw_at lw_m1 189 rfl) rfl
theorem q208 : (Jvm.Cond.methodLink "AlignmentDeskModel" (30 : Nat) ({ cls := "AlignmentDeskModel", name := "mark", desc := "(I)Z" } : Jvm.MethodName)) ∈ lw_all := lw_g (lw_at lw_m1 190 rfl) rfl
theorem q209 : (Jvm.Cond.privateMethod ({ cls := "AlignmentDeskModel", name := "mark", desc := "(I)Z" } : Jvm.MethodName)) ∈ lw_tbl := lw_at lw_m1 191 rfl
theorem q210 : (Jvm.Cond.instanceMethod ({ cls := "AlignmentDeskModel", name := "mark", desc := "(I)Z" } : Jvm.MethodName)) ∈ lw_all := lw_g (lw_at lw_m1 192 rfl) rfl
theorem q211 : (Jvm.Cond.code ({ cls := "AlignmentDeskModel", name := "mark", desc := "(I)Z" } : Jvm.MethodName) prog_3_method_4_code (2 : Nat) (Option.some Jvm.ClassFile.FieldType.boolean)) ∈ lw_all := lw_g (lw_at lw_m1 193 rfl) rfl
theorem q213 : (Jvm.Cond.instanceMethod ({ cls := "AlignmentDeskModel", name := "write", desc := "(I)I" } : Jvm.MethodName)) ∈ lw_all := lw_g (lw_at lw_m1 195 rfl) rfl
theorem q214 : (Jvm.Cond.selects "AlignmentDeskModel" ({ cls := "AlignmentDeskModel", name := "write", desc := "(I)I" } : Jvm.MethodName) ({ cls := "AlignmentDeskModel", name := "write", desc := "(I)I" } : Jvm.MethodName)) ∈ lw_all := lw_g (lw_at lw_m1 196 rfl) rfl
theorem q215 : (Jvm.Cond.code ({ cls := "AlignmentDeskModel", name := "write", desc := "(I)I" } : Jvm.MethodName) prog_3_method_7_code (2 : Nat) (Option.some Jvm.ClassFile.FieldType.int)) ∈ lw_all := lw_g (lw_at lw_m1 197 rfl) rfl
theorem q217 : (Jvm.Cond.instanceMethod ({ cls := "AlignmentDeskModel", name := "rub", desc := "()I" } : Jvm.MethodName)) ∈ lw_all := lw_g (lw_at lw_m1 199 rfl) rfl
theorem q218 : (Jvm.Cond.selects "AlignmentDeskModel" ({ cls := "AlignmentDeskModel", name := "rub", desc := "()I" } : Jvm.MethodName) ({ cls := "AlignmentDeskModel", name := "rub", desc := "()I" } : Jvm.MethodName)) ∈ lw_all := lw_g (lw_at lw_m1 200 rfl) rfl
theorem q219 : (Jvm.Cond.code ({ cls := "AlignmentDeskModel", name := "rub", desc := "()I" } : Jvm.MethodName) prog_3_method_8_code (1 : Nat) (Option.some Jvm.ClassFile.FieldType.int)) ∈ lw_all := lw_g (lw_at lw_m1 201 rfl) rfl
theorem q221 : (Jvm.Cond.instanceMethod ({ cls := "AlignmentDeskModel", name := "frames", desc := "()I" } : Jvm.MethodName)) ∈ lw_all := lw_g (lw_at lw_m1 203 rfl) rfl
theorem q222 : (Jvm.Cond.selects "AlignmentDeskModel" ({ cls := "AlignmentDeskModel", name := "frames", desc := "()I" } : Jvm.MethodName) ({ cls := "AlignmentDeskModel", name := "frames", desc := "()I" } : Jvm.MethodName)) ∈ lw_all := lw_g (lw_at lw_m1 204 rfl) rfl
theorem q223 : (Jvm.Cond.code ({ cls := "AlignmentDeskModel", name := "frames", desc := "()I" } : Jvm.MethodName) prog_3_method_9_code (1 : Nat) (Option.some Jvm.ClassFile.FieldType.int)) ∈ lw_all := lw_g (lw_at lw_m1 205 rfl) rfl
theorem q225 : (Jvm.Cond.instanceMethod ({ cls := "AlignmentDeskModel", name := "length", desc := "()I" } : Jvm.MethodName)) ∈ lw_all := lw_g (lw_at lw_m1 207 rfl) rfl
theorem q226 : (Jvm.Cond.selects "AlignmentDeskModel" ({ cls := "AlignmentDeskModel", name := "length", desc := "()I" } : Jvm.MethodName) ({ cls := "AlignmentDeskModel", name := "length", desc := "()I" } : Jvm.MethodName)) ∈ lw_all := lw_g (lw_at lw_m1 208 rfl) rfl
theorem q227 : (Jvm.Cond.code ({ cls := "AlignmentDeskModel", name := "length", desc := "()I" } : Jvm.MethodName) prog_3_method_10_code (1 : Nat) (Option.some Jvm.ClassFile.FieldType.int)) ∈ lw_all := lw_g (lw_at lw_m1 209 rfl) rfl
theorem q229 : (Jvm.Cond.instanceMethod ({ cls := "AlignmentDeskModel", name := "total", desc := "()I" } : Jvm.MethodName)) ∈ lw_all := lw_g (lw_at lw_m1 211 rfl) rfl
theorem q230 : (Jvm.Cond.selects "AlignmentDeskModel" ({ cls := "AlignmentDeskModel", name := "total", desc := "()I" } : Jvm.MethodName) ({ cls := "AlignmentDeskModel", name := "total", desc := "()I" } : Jvm.MethodName)) ∈ lw_all := lw_g (lw_at lw_m1 212 rfl) rfl
theorem q231 : (Jvm.Cond.code ({ cls := "AlignmentDeskModel", name := "total", desc := "()I" } : Jvm.MethodName) prog_3_method_15_code (4 : Nat) (Option.some Jvm.ClassFile.FieldType.int)) ∈ lw_all := lw_g (lw_at lw_m1 213 rfl) rfl
theorem q232 : (Jvm.Cond.methodLink "AlignmentDeskModel" (40 : Nat) ({ cls := "AlignmentDeskModel", name := "all", desc := "()I" } : Jvm.MethodName)) ∈ lw_all := lw_g (lw_at lw_m1 214 rfl) rfl
theorem q233 : (Jvm.Cond.privateMethod ({ cls := "AlignmentDeskModel", name := "all", desc := "()I" } : Jvm.MethodName)) ∈ lw_tbl := lw_at lw_m1 215 rfl
theorem q234 : (Jvm.Cond.instanceMethod ({ cls := "AlignmentDeskModel", name := "all", desc := "()I" } : Jvm.MethodName)) ∈ lw_all := lw_g (lw_at lw_m1 216 rfl) rfl
theorem q235 : (Jvm.Cond.code ({ cls := "AlignmentDeskModel", name := "all", desc := "()I" } : Jvm.MethodName) prog_3_method_14_code (1 : Nat) (Option.some Jvm.ClassFile.FieldType.int)) ∈ lw_all := lw_g (lw_at lw_m1 217 rfl) rfl
theorem q236 : (Jvm.Cond.methodLink "AlignmentDeskModel" (43 : Nat) ({ cls := "AlignmentDeskModel", name := "spell", desc := "(I)I" } : Jvm.MethodName)) ∈ lw_all := lw_g (lw_at lw_m1 218 rfl) rfl
theorem q237 : (Jvm.Cond.privateMethod ({ cls := "AlignmentDeskModel", name := "spell", desc := "(I)I" } : Jvm.MethodName)) ∈ lw_tbl := lw_at lw_m1 219 rfl
theorem q238 : (Jvm.Cond.instanceMethod ({ cls := "AlignmentDeskModel", name := "spell", desc := "(I)I" } : Jvm.MethodName)) ∈ lw_all := lw_g (lw_at lw_m1 220 rfl) rfl
theorem q239 : (Jvm.Cond.code ({ cls := "AlignmentDeskModel", name := "spell", desc := "(I)I" } : Jvm.MethodName) prog_3_method_11_code (4 : Nat) (Option.some Jvm.ClassFile.FieldType.int)) ∈ lw_all := lw_g (lw_at lw_m1 221 rfl) rfl
theorem q240 : (Jvm.Cond.methodLink "AlignmentDeskModel" (47 : Nat) ({ cls := "AlignmentDeskModel", name := "fits", desc := "(Z)Z" } : Jvm.MethodName)) ∈ lw_all := lw_g (lw_at lw_m1 222 rfl) rfl
theorem q241 : (Jvm.Cond.privateMethod ({ cls := "AlignmentDeskModel", name := "fits", desc := "(Z)Z" } : Jvm.MethodName)) ∈ lw_tbl := lw_at lw_m1 223 rfl
theorem q242 : (Jvm.Cond.instanceMethod ({ cls := "AlignmentDeskModel", name := "fits", desc := "(Z)Z" } : Jvm.MethodName)) ∈ lw_all := lw_g (lw_at lw_m1 224 rfl) rfl
theorem q243 : (Jvm.Cond.code ({ cls := "AlignmentDeskModel", name := "fits", desc := "(Z)Z" } : Jvm.MethodName) prog_3_method_13_code (5 : Nat) (Option.some Jvm.ClassFile.FieldType.boolean)) ∈ lw_all := lw_g (lw_at lw_m1 225 rfl) rfl
theorem q244 : (Jvm.Cond.methodLink "AlignmentDeskModel" (36 : Nat) ({ cls := "AlignmentDeskModel", name := "reads", desc := "()I" } : Jvm.MethodName)) ∈ lw_all := lw_g (lw_at lw_m1 226 rfl) rfl
theorem q245 : (Jvm.Cond.privateMethod ({ cls := "AlignmentDeskModel", name := "reads", desc := "()I" } : Jvm.MethodName)) ∈ lw_tbl := lw_at lw_m1 227 rfl
theorem q246 : (Jvm.Cond.instanceMethod ({ cls := "AlignmentDeskModel", name := "reads", desc := "()I" } : Jvm.MethodName)) ∈ lw_all := lw_g (lw_at lw_m1 228 rfl) rfl
theorem q247 : (Jvm.Cond.code ({ cls := "AlignmentDeskModel", name := "reads", desc := "()I" } : Jvm.MethodName) prog_3_method_12_code (4 : Nat) (Option.some Jvm.ClassFile.FieldType.int)) ∈ lw_all := lw_g (lw_at lw_m1 229 rfl) rfl
theorem q249 : (Jvm.Cond.instanceMethod ({ cls := "AlignmentDeskModel", name := "paths", desc := "()I" } : Jvm.MethodName)) ∈ lw_all := lw_g (lw_at lw_m1 231 rfl) rfl
theorem q250 : (Jvm.Cond.selects "AlignmentDeskModel" ({ cls := "AlignmentDeskModel", name := "paths", desc := "()I" } : Jvm.MethodName) ({ cls := "AlignmentDeskModel", name := "paths", desc := "()I" } : Jvm.MethodName)) ∈ lw_all := lw_g (lw_at lw_m1 232 rfl) rfl
theorem q251 : (Jvm.Cond.code ({ cls := "AlignmentDeskModel", name := "paths", desc := "()I" } : Jvm.MethodName) prog_3_method_16_code (3 : Nat) (Option.some Jvm.ClassFile.FieldType.int)) ∈ lw_all := lw_g (lw_at lw_m1 233 rfl) rfl
theorem q253 : (Jvm.Cond.instanceMethod ({ cls := "AlignmentDeskModel", name := "best", desc := "()I" } : Jvm.MethodName)) ∈ lw_all := lw_g (lw_at lw_m1 235 rfl) rfl
theorem q254 : (Jvm.Cond.selects "AlignmentDeskModel" ({ cls := "AlignmentDeskModel", name := "best", desc := "()I" } : Jvm.MethodName) ({ cls := "AlignmentDeskModel", name := "best", desc := "()I" } : Jvm.MethodName)) ∈ lw_all := lw_g (lw_at lw_m1 236 rfl) rfl
theorem q255 : (Jvm.Cond.code ({ cls := "AlignmentDeskModel", name := "best", desc := "()I" } : Jvm.MethodName) prog_3_method_18_code (2 : Nat) (Option.some Jvm.ClassFile.FieldType.int)) ∈ lw_all := lw_g (lw_at lw_m1 237 rfl) rfl
theorem q256 : (Jvm.Cond.methodLink "AlignmentDeskModel" (51 : Nat) ({ cls := "AlignmentDeskModel", name := "first", desc := "()I" } : Jvm.MethodName)) ∈ lw_all := lw_g (lw_at lw_m1 238 rfl) rfl
theorem q257 : (Jvm.Cond.privateMethod ({ cls := "AlignmentDeskModel", name := "first", desc := "()I" } : Jvm.MethodName)) ∈ lw_tbl := lw_at lw_m1 239 rfl
theorem q258 : (Jvm.Cond.instanceMethod ({ cls := "AlignmentDeskModel", name := "first", desc := "()I" } : Jvm.MethodName)) ∈ lw_all := lw_g (lw_at lw_m2 0 rfl) rfl
theorem q259 : (Jvm.Cond.code ({ cls := "AlignmentDeskModel", name := "first", desc := "()I" } : Jvm.MethodName) prog_3_method_17_code (5 : Nat) (Option.some Jvm.ClassFile.FieldType.int)) ∈ lw_all := lw_g (lw_at lw_m2 1 rfl) rfl
theorem q261 : (Jvm.Cond.instanceMethod ({ cls := "AlignmentDeskModel", name := "through", desc := "(II)I" } : Jvm.MethodName)) ∈ lw_all := lw_g (lw_at lw_m2 3 rfl) rfl
theorem q262 : (Jvm.Cond.selects "AlignmentDeskModel" ({ cls := "AlignmentDeskModel", name := "through", desc := "(II)I" } : Jvm.MethodName) ({ cls := "AlignmentDeskModel", name := "through", desc := "(II)I" } : Jvm.MethodName)) ∈ lw_all := lw_g (lw_at lw_m2 4 rfl) rfl
theorem q263 : (Jvm.Cond.code ({ cls := "AlignmentDeskModel", name := "through", desc := "(II)I" } : Jvm.MethodName) prog_3_method_19_code (6 : Nat) (Option.some Jvm.ClassFile.FieldType.int)) ∈ lw_all := lw_g (lw_at lw_m2 5 rfl) rfl
theorem q265 : (Jvm.Cond.instanceMethod ({ cls := "AlignmentDeskModel", name := "prefix", desc := "()I" } : Jvm.MethodName)) ∈ lw_all := lw_g (lw_at lw_m2 7 rfl) rfl
theorem q266 : (Jvm.Cond.selects "AlignmentDeskModel" ({ cls := "AlignmentDeskModel", name := "prefix", desc := "()I" } : Jvm.MethodName) ({ cls := "AlignmentDeskModel", name := "prefix", desc := "()I" } : Jvm.MethodName)) ∈ lw_all := lw_g (lw_at lw_m2 8 rfl) rfl
theorem q267 : (Jvm.Cond.code ({ cls := "AlignmentDeskModel", name := "prefix", desc := "()I" } : Jvm.MethodName) prog_3_method_20_code (4 : Nat) (Option.some Jvm.ClassFile.FieldType.int)) ∈ lw_all := lw_g (lw_at lw_m2 9 rfl) rfl
theorem q269 : (Jvm.Cond.instanceMethod ({ cls := "AlignmentDeskModel", name := "everything", desc := "()I" } : Jvm.MethodName)) ∈ lw_all := lw_g (lw_at lw_m2 11 rfl) rfl
theorem q270 : (Jvm.Cond.selects "AlignmentDeskModel" ({ cls := "AlignmentDeskModel", name := "everything", desc := "()I" } : Jvm.MethodName) ({ cls := "AlignmentDeskModel", name := "everything", desc := "()I" } : Jvm.MethodName)) ∈ lw_all := lw_g (lw_at lw_m2 12 rfl) rfl
theorem q271 : (Jvm.Cond.code ({ cls := "AlignmentDeskModel", name := "everything", desc := "()I" } : Jvm.MethodName) prog_3_method_21_code (3 : Nat) (Option.some Jvm.ClassFile.FieldType.int)) ∈ lw_all := lw_g (lw_at lw_m2 13 rfl) rfl
theorem q273 : (Jvm.Cond.instanceMethod ({ cls := "AlignmentDeskModel", name := "bestNext", desc := "()I" } : Jvm.MethodName)) ∈ lw_all := lw_g (lw_at lw_m2 15 rfl) rfl
theorem q274 : (Jvm.Cond.selects "AlignmentDeskModel" ({ cls := "AlignmentDeskModel", name := "bestNext", desc := "()I" } : Jvm.MethodName) ({ cls := "AlignmentDeskModel", name := "bestNext", desc := "()I" } : Jvm.MethodName)) ∈ lw_all := lw_g (lw_at lw_m2 16 rfl) rfl
theorem q275 : (Jvm.Cond.code ({ cls := "AlignmentDeskModel", name := "bestNext", desc := "()I" } : Jvm.MethodName) prog_3_method_22_code (5 : Nat) (Option.some Jvm.ClassFile.FieldType.int)) ∈ lw_all := lw_g (lw_at lw_m2 17 rfl) rfl
theorem q276 : (Jvm.Cond.methodLink "AlignmentDeskModel" (54 : Nat) ({ cls := "AlignmentDeskModel", name := "write", desc := "(I)I" } : Jvm.MethodName)) ∈ lw_all := lw_g (lw_at lw_m2 18 rfl) rfl
theorem q277 : (Jvm.Cond.methodLink "AlignmentDeskModel" (57 : Nat) ({ cls := "AlignmentDeskModel", name := "total", desc := "()I" } : Jvm.MethodName)) ∈ lw_all := lw_g (lw_at lw_m2 19 rfl) rfl
theorem q278 : (Jvm.Cond.methodLink "AlignmentDeskModel" (60 : Nat) ({ cls := "AlignmentDeskModel", name := "rub", desc := "()I" } : Jvm.MethodName)) ∈ lw_all := lw_g (lw_at lw_m2 20 rfl) rfl
theorem q280 : (Jvm.Cond.instanceMethod ({ cls := "AlignmentDeskModel", name := "bestAt", desc := "(I)I" } : Jvm.MethodName)) ∈ lw_all := lw_g (lw_at lw_m2 22 rfl) rfl
theorem q281 : (Jvm.Cond.selects "AlignmentDeskModel" ({ cls := "AlignmentDeskModel", name := "bestAt", desc := "(I)I" } : Jvm.MethodName) ({ cls := "AlignmentDeskModel", name := "bestAt", desc := "(I)I" } : Jvm.MethodName)) ∈ lw_all := lw_g (lw_at lw_m2 23 rfl) rfl
theorem q282 : (Jvm.Cond.code ({ cls := "AlignmentDeskModel", name := "bestAt", desc := "(I)I" } : Jvm.MethodName) prog_3_method_23_code (3 : Nat) (Option.some Jvm.ClassFile.FieldType.int)) ∈ lw_all := lw_g (lw_at lw_m2 24 rfl) rfl
theorem in_X1 : ∀ w ∈ wsX10, w ∈ lw_all := lw_in wsX10 [179, 181, 183, 185, 187, 189] (by decide +kernel) (by decide +kernel)
end
section
/-! the law's own entry -/
set_option maxRecDepth 100000
abbrev cL_law : ByteArray := code
theorem dL_law_0 : decode cL_law 0 = .ok (.new 7, 3) := by decide +kernel
theorem dL_law_3 : decode cL_law 3 = .ok (.dup, 1) := by decide +kernel
theorem dL_law_4 : decode cL_law 4 = .ok (.invokespecial 9, 3) := by decide +kernel
theorem dL_law_7 : decode cL_law 7 = .ok (.astore_n 1, 1) := by decide +kernel
theorem dL_law_8 : decode cL_law 8 = .ok (.new 10, 3) := by decide +kernel
theorem dL_law_11 : decode cL_law 11 = .ok (.dup, 1) := by decide +kernel
theorem dL_law_12 : decode cL_law 12 = .ok (.invokespecial 12, 3) := by decide +kernel
theorem dL_law_15 : decode cL_law 15 = .ok (.astore_n 2, 1) := by decide +kernel
theorem dL_law_16 : decode cL_law 16 = .ok (.iconst 0, 1) := by decide +kernel
theorem dL_law_17 : decode cL_law 17 = .ok (.istore_n 3, 1) := by decide +kernel
theorem dL_law_18 : decode cL_law 18 = .ok (.iload_n 3, 1) := by decide +kernel
theorem dL_law_19 : decode cL_law 19 = .ok (.aload_n 0, 1) := by decide +kernel
theorem dL_law_20 : decode cL_law 20 = .ok (.arraylength, 1) := by decide +kernel
theorem dL_law_21 : decode cL_law 21 = .ok (.iconst 4, 1) := by decide +kernel
theorem dL_law_22 : decode cL_law 22 = .ok (.isub, 1) := by decide +kernel
theorem dL_law_23 : decode cL_law 23 = .ok (.if_icmp .gt 366, 3) := by decide +kernel
theorem dL_law_26 : decode cL_law 26 = .ok (.aload_n 0, 1) := by decide +kernel
theorem dL_law_27 : decode cL_law 27 = .ok (.iload_n 3, 1) := by decide +kernel
theorem dL_law_28 : decode cL_law 28 = .ok (.iaload, 1) := by decide +kernel
theorem dL_law_29 : decode cL_law 29 = .ok (.bipush 15, 2) := by decide +kernel
theorem dL_law_31 : decode cL_law 31 = .ok (.iand, 1) := by decide +kernel
theorem dL_law_32 : decode cL_law 32 = .ok (.tableswitch 351 0 14 #[76, 99, 112, 155, 178, 191, 204, 217, 230, 243, 256, 289, 302, 315, 328], 76) := by decide +kernel
theorem dL_law_108 : decode cL_law 108 = .ok (.aload_n 1, 1) := by decide +kernel
theorem dL_law_109 : decode cL_law 109 = .ok (.aload_n 0, 1) := by decide +kernel
theorem dL_law_110 : decode cL_law 110 = .ok (.iload_n 3, 1) := by decide +kernel
theorem dL_law_111 : decode cL_law 111 = .ok (.iconst 1, 1) := by decide +kernel
theorem dL_law_112 : decode cL_law 112 = .ok (.iadd, 1) := by decide +kernel
theorem dL_law_113 : decode cL_law 113 = .ok (.iaload, 1) := by decide +kernel
theorem dL_law_114 : decode cL_law 114 = .ok (.invokevirtual 13, 3) := by decide +kernel
theorem dL_law_117 : decode cL_law 117 = .ok (.aload_n 2, 1) := by decide +kernel
theorem dL_law_118 : decode cL_law 118 = .ok (.aload_n 0, 1) := by decide +kernel
theorem dL_law_119 : decode cL_law 119 = .ok (.iload_n 3, 1) := by decide +kernel
theorem dL_law_120 : decode cL_law 120 = .ok (.iconst 1, 1) := by decide +kernel
theorem dL_law_121 : decode cL_law 121 = .ok (.iadd, 1) := by decide +kernel
theorem dL_law_122 : decode cL_law 122 = .ok (.iaload, 1) := by decide +kernel
theorem dL_law_123 : decode cL_law 123 = .ok (.invokevirtual 17, 3) := by decide +kernel
theorem dL_law_126 : decode cL_law 126 = .ok (.if_icmp .eq 257, 3) := by decide +kernel
theorem dL_law_129 : decode cL_law 129 = .ok (.iconst 0, 1) := by decide +kernel
theorem dL_law_130 : decode cL_law 130 = .ok (.ireturn, 1) := by decide +kernel
theorem dL_law_131 : decode cL_law 131 = .ok (.aload_n 1, 1) := by decide +kernel
theorem dL_law_132 : decode cL_law 132 = .ok (.invokevirtual 18, 3) := by decide +kernel
theorem dL_law_135 : decode cL_law 135 = .ok (.aload_n 2, 1) := by decide +kernel
theorem dL_law_136 : decode cL_law 136 = .ok (.invokevirtual 22, 3) := by decide +kernel
theorem dL_law_139 : decode cL_law 139 = .ok (.if_icmp .eq 244, 3) := by decide +kernel
theorem dL_law_142 : decode cL_law 142 = .ok (.iconst 0, 1) := by decide +kernel
theorem dL_law_143 : decode cL_law 143 = .ok (.ireturn, 1) := by decide +kernel
theorem dL_law_144 : decode cL_law 144 = .ok (.aload_n 1, 1) := by decide +kernel
theorem dL_law_145 : decode cL_law 145 = .ok (.aload_n 0, 1) := by decide +kernel
theorem dL_law_146 : decode cL_law 146 = .ok (.iload_n 3, 1) := by decide +kernel
theorem dL_law_147 : decode cL_law 147 = .ok (.iconst 1, 1) := by decide +kernel
theorem dL_law_148 : decode cL_law 148 = .ok (.iadd, 1) := by decide +kernel
theorem dL_law_149 : decode cL_law 149 = .ok (.iaload, 1) := by decide +kernel
theorem dL_law_150 : decode cL_law 150 = .ok (.aload_n 0, 1) := by decide +kernel
theorem dL_law_151 : decode cL_law 151 = .ok (.iload_n 3, 1) := by decide +kernel
theorem dL_law_152 : decode cL_law 152 = .ok (.iconst 2, 1) := by decide +kernel
theorem dL_law_153 : decode cL_law 153 = .ok (.iadd, 1) := by decide +kernel
theorem dL_law_154 : decode cL_law 154 = .ok (.iaload, 1) := by decide +kernel
theorem dL_law_155 : decode cL_law 155 = .ok (.aload_n 0, 1) := by decide +kernel
theorem dL_law_156 : decode cL_law 156 = .ok (.iload_n 3, 1) := by decide +kernel
theorem dL_law_157 : decode cL_law 157 = .ok (.iconst 3, 1) := by decide +kernel
theorem dL_law_158 : decode cL_law 158 = .ok (.iadd, 1) := by decide +kernel
theorem dL_law_159 : decode cL_law 159 = .ok (.iaload, 1) := by decide +kernel
theorem dL_law_160 : decode cL_law 160 = .ok (.invokevirtual 23, 3) := by decide +kernel
theorem dL_law_163 : decode cL_law 163 = .ok (.aload_n 2, 1) := by decide +kernel
theorem dL_law_164 : decode cL_law 164 = .ok (.aload_n 0, 1) := by decide +kernel
theorem dL_law_165 : decode cL_law 165 = .ok (.iload_n 3, 1) := by decide +kernel
theorem dL_law_166 : decode cL_law 166 = .ok (.iconst 1, 1) := by decide +kernel
theorem dL_law_167 : decode cL_law 167 = .ok (.iadd, 1) := by decide +kernel
theorem dL_law_168 : decode cL_law 168 = .ok (.iaload, 1) := by decide +kernel
theorem dL_law_169 : decode cL_law 169 = .ok (.aload_n 0, 1) := by decide +kernel
theorem dL_law_170 : decode cL_law 170 = .ok (.iload_n 3, 1) := by decide +kernel
theorem dL_law_171 : decode cL_law 171 = .ok (.iconst 2, 1) := by decide +kernel
theorem dL_law_172 : decode cL_law 172 = .ok (.iadd, 1) := by decide +kernel
theorem dL_law_173 : decode cL_law 173 = .ok (.iaload, 1) := by decide +kernel
theorem dL_law_174 : decode cL_law 174 = .ok (.aload_n 0, 1) := by decide +kernel
theorem dL_law_175 : decode cL_law 175 = .ok (.iload_n 3, 1) := by decide +kernel
theorem dL_law_176 : decode cL_law 176 = .ok (.iconst 3, 1) := by decide +kernel
theorem dL_law_177 : decode cL_law 177 = .ok (.iadd, 1) := by decide +kernel
theorem dL_law_178 : decode cL_law 178 = .ok (.iaload, 1) := by decide +kernel
theorem dL_law_179 : decode cL_law 179 = .ok (.invokevirtual 27, 3) := by decide +kernel
theorem dL_law_182 : decode cL_law 182 = .ok (.if_icmp .eq 201, 3) := by decide +kernel
theorem dL_law_185 : decode cL_law 185 = .ok (.iconst 0, 1) := by decide +kernel
theorem dL_law_186 : decode cL_law 186 = .ok (.ireturn, 1) := by decide +kernel
theorem dL_law_187 : decode cL_law 187 = .ok (.aload_n 1, 1) := by decide +kernel
theorem dL_law_188 : decode cL_law 188 = .ok (.aload_n 0, 1) := by decide +kernel
theorem dL_law_189 : decode cL_law 189 = .ok (.iload_n 3, 1) := by decide +kernel
theorem dL_law_190 : decode cL_law 190 = .ok (.iconst 1, 1) := by decide +kernel
theorem dL_law_191 : decode cL_law 191 = .ok (.iadd, 1) := by decide +kernel
theorem dL_law_192 : decode cL_law 192 = .ok (.iaload, 1) := by decide +kernel
theorem dL_law_193 : decode cL_law 193 = .ok (.invokevirtual 28, 3) := by decide +kernel
theorem dL_law_196 : decode cL_law 196 = .ok (.aload_n 2, 1) := by decide +kernel
theorem dL_law_197 : decode cL_law 197 = .ok (.aload_n 0, 1) := by decide +kernel
theorem dL_law_198 : decode cL_law 198 = .ok (.iload_n 3, 1) := by decide +kernel
theorem dL_law_199 : decode cL_law 199 = .ok (.iconst 1, 1) := by decide +kernel
theorem dL_law_200 : decode cL_law 200 = .ok (.iadd, 1) := by decide +kernel
theorem dL_law_201 : decode cL_law 201 = .ok (.iaload, 1) := by decide +kernel
theorem dL_law_202 : decode cL_law 202 = .ok (.invokevirtual 31, 3) := by decide +kernel
theorem dL_law_205 : decode cL_law 205 = .ok (.if_icmp .eq 178, 3) := by decide +kernel
theorem dL_law_208 : decode cL_law 208 = .ok (.iconst 0, 1) := by decide +kernel
theorem dL_law_209 : decode cL_law 209 = .ok (.ireturn, 1) := by decide +kernel
theorem dL_law_210 : decode cL_law 210 = .ok (.aload_n 1, 1) := by decide +kernel
theorem dL_law_211 : decode cL_law 211 = .ok (.invokevirtual 32, 3) := by decide +kernel
theorem dL_law_214 : decode cL_law 214 = .ok (.aload_n 2, 1) := by decide +kernel
theorem dL_law_215 : decode cL_law 215 = .ok (.invokevirtual 35, 3) := by decide +kernel
theorem dL_law_218 : decode cL_law 218 = .ok (.if_icmp .eq 165, 3) := by decide +kernel
theorem dL_law_221 : decode cL_law 221 = .ok (.iconst 0, 1) := by decide +kernel
theorem dL_law_222 : decode cL_law 222 = .ok (.ireturn, 1) := by decide +kernel
theorem dL_law_223 : decode cL_law 223 = .ok (.aload_n 1, 1) := by decide +kernel
theorem dL_law_224 : decode cL_law 224 = .ok (.invokevirtual 36, 3) := by decide +kernel
theorem dL_law_227 : decode cL_law 227 = .ok (.aload_n 2, 1) := by decide +kernel
theorem dL_law_228 : decode cL_law 228 = .ok (.invokevirtual 39, 3) := by decide +kernel
theorem dL_law_231 : decode cL_law 231 = .ok (.if_icmp .eq 152, 3) := by decide +kernel
theorem dL_law_234 : decode cL_law 234 = .ok (.iconst 0, 1) := by decide +kernel
theorem dL_law_235 : decode cL_law 235 = .ok (.ireturn, 1) := by decide +kernel
theorem dL_law_236 : decode cL_law 236 = .ok (.aload_n 1, 1) := by decide +kernel
theorem dL_law_237 : decode cL_law 237 = .ok (.invokevirtual 40, 3) := by decide +kernel
theorem dL_law_240 : decode cL_law 240 = .ok (.aload_n 2, 1) := by decide +kernel
theorem dL_law_241 : decode cL_law 241 = .ok (.invokevirtual 43, 3) := by decide +kernel
theorem dL_law_244 : decode cL_law 244 = .ok (.if_icmp .eq 139, 3) := by decide +kernel
theorem dL_law_247 : decode cL_law 247 = .ok (.iconst 0, 1) := by decide +kernel
theorem dL_law_248 : decode cL_law 248 = .ok (.ireturn, 1) := by decide +kernel
theorem dL_law_249 : decode cL_law 249 = .ok (.aload_n 1, 1) := by decide +kernel
theorem dL_law_250 : decode cL_law 250 = .ok (.invokevirtual 44, 3) := by decide +kernel
theorem dL_law_253 : decode cL_law 253 = .ok (.aload_n 2, 1) := by decide +kernel
theorem dL_law_254 : decode cL_law 254 = .ok (.invokevirtual 47, 3) := by decide +kernel
theorem dL_law_257 : decode cL_law 257 = .ok (.if_icmp .eq 126, 3) := by decide +kernel
theorem dL_law_260 : decode cL_law 260 = .ok (.iconst 0, 1) := by decide +kernel
theorem dL_law_261 : decode cL_law 261 = .ok (.ireturn, 1) := by decide +kernel
theorem dL_law_262 : decode cL_law 262 = .ok (.aload_n 1, 1) := by decide +kernel
theorem dL_law_263 : decode cL_law 263 = .ok (.invokevirtual 48, 3) := by decide +kernel
theorem dL_law_266 : decode cL_law 266 = .ok (.aload_n 2, 1) := by decide +kernel
theorem dL_law_267 : decode cL_law 267 = .ok (.invokevirtual 51, 3) := by decide +kernel
theorem dL_law_270 : decode cL_law 270 = .ok (.if_icmp .eq 113, 3) := by decide +kernel
theorem dL_law_273 : decode cL_law 273 = .ok (.iconst 0, 1) := by decide +kernel
theorem dL_law_274 : decode cL_law 274 = .ok (.ireturn, 1) := by decide +kernel
theorem dL_law_275 : decode cL_law 275 = .ok (.aload_n 1, 1) := by decide +kernel
theorem dL_law_276 : decode cL_law 276 = .ok (.invokevirtual 52, 3) := by decide +kernel
theorem dL_law_279 : decode cL_law 279 = .ok (.aload_n 2, 1) := by decide +kernel
theorem dL_law_280 : decode cL_law 280 = .ok (.invokevirtual 55, 3) := by decide +kernel
theorem dL_law_283 : decode cL_law 283 = .ok (.if_icmp .eq 100, 3) := by decide +kernel
theorem dL_law_286 : decode cL_law 286 = .ok (.iconst 0, 1) := by decide +kernel
theorem dL_law_287 : decode cL_law 287 = .ok (.ireturn, 1) := by decide +kernel
theorem dL_law_288 : decode cL_law 288 = .ok (.aload_n 1, 1) := by decide +kernel
theorem dL_law_289 : decode cL_law 289 = .ok (.aload_n 0, 1) := by decide +kernel
theorem dL_law_290 : decode cL_law 290 = .ok (.iload_n 3, 1) := by decide +kernel
theorem dL_law_291 : decode cL_law 291 = .ok (.iconst 1, 1) := by decide +kernel
theorem dL_law_292 : decode cL_law 292 = .ok (.iadd, 1) := by decide +kernel
theorem dL_law_293 : decode cL_law 293 = .ok (.iaload, 1) := by decide +kernel
theorem dL_law_294 : decode cL_law 294 = .ok (.aload_n 0, 1) := by decide +kernel
theorem dL_law_295 : decode cL_law 295 = .ok (.iload_n 3, 1) := by decide +kernel
theorem dL_law_296 : decode cL_law 296 = .ok (.iconst 2, 1) := by decide +kernel
theorem dL_law_297 : decode cL_law 297 = .ok (.iadd, 1) := by decide +kernel
theorem dL_law_298 : decode cL_law 298 = .ok (.iaload, 1) := by decide +kernel
theorem dL_law_299 : decode cL_law 299 = .ok (.invokevirtual 56, 3) := by decide +kernel
theorem dL_law_302 : decode cL_law 302 = .ok (.aload_n 2, 1) := by decide +kernel
theorem dL_law_303 : decode cL_law 303 = .ok (.aload_n 0, 1) := by decide +kernel
theorem dL_law_304 : decode cL_law 304 = .ok (.iload_n 3, 1) := by decide +kernel
theorem dL_law_305 : decode cL_law 305 = .ok (.iconst 1, 1) := by decide +kernel
theorem dL_law_306 : decode cL_law 306 = .ok (.iadd, 1) := by decide +kernel
theorem dL_law_307 : decode cL_law 307 = .ok (.iaload, 1) := by decide +kernel
theorem dL_law_308 : decode cL_law 308 = .ok (.aload_n 0, 1) := by decide +kernel
theorem dL_law_309 : decode cL_law 309 = .ok (.iload_n 3, 1) := by decide +kernel
theorem dL_law_310 : decode cL_law 310 = .ok (.iconst 2, 1) := by decide +kernel
theorem dL_law_311 : decode cL_law 311 = .ok (.iadd, 1) := by decide +kernel
theorem dL_law_312 : decode cL_law 312 = .ok (.iaload, 1) := by decide +kernel
theorem dL_law_313 : decode cL_law 313 = .ok (.invokevirtual 60, 3) := by decide +kernel
theorem dL_law_316 : decode cL_law 316 = .ok (.if_icmp .eq 67, 3) := by decide +kernel
theorem dL_law_319 : decode cL_law 319 = .ok (.iconst 0, 1) := by decide +kernel
theorem dL_law_320 : decode cL_law 320 = .ok (.ireturn, 1) := by decide +kernel
theorem dL_law_321 : decode cL_law 321 = .ok (.aload_n 1, 1) := by decide +kernel
theorem dL_law_322 : decode cL_law 322 = .ok (.invokevirtual 61, 3) := by decide +kernel
theorem dL_law_325 : decode cL_law 325 = .ok (.aload_n 2, 1) := by decide +kernel
theorem dL_law_326 : decode cL_law 326 = .ok (.invokevirtual 64, 3) := by decide +kernel
theorem dL_law_329 : decode cL_law 329 = .ok (.if_icmp .eq 54, 3) := by decide +kernel
theorem dL_law_332 : decode cL_law 332 = .ok (.iconst 0, 1) := by decide +kernel
theorem dL_law_333 : decode cL_law 333 = .ok (.ireturn, 1) := by decide +kernel
theorem dL_law_334 : decode cL_law 334 = .ok (.aload_n 1, 1) := by decide +kernel
theorem dL_law_335 : decode cL_law 335 = .ok (.invokevirtual 65, 3) := by decide +kernel
theorem dL_law_338 : decode cL_law 338 = .ok (.aload_n 2, 1) := by decide +kernel
theorem dL_law_339 : decode cL_law 339 = .ok (.invokevirtual 68, 3) := by decide +kernel
theorem dL_law_342 : decode cL_law 342 = .ok (.if_icmp .eq 41, 3) := by decide +kernel
theorem dL_law_345 : decode cL_law 345 = .ok (.iconst 0, 1) := by decide +kernel
theorem dL_law_346 : decode cL_law 346 = .ok (.ireturn, 1) := by decide +kernel
theorem dL_law_347 : decode cL_law 347 = .ok (.aload_n 1, 1) := by decide +kernel
theorem dL_law_348 : decode cL_law 348 = .ok (.invokevirtual 69, 3) := by decide +kernel
theorem dL_law_351 : decode cL_law 351 = .ok (.aload_n 2, 1) := by decide +kernel
theorem dL_law_352 : decode cL_law 352 = .ok (.invokevirtual 72, 3) := by decide +kernel
theorem dL_law_355 : decode cL_law 355 = .ok (.if_icmp .eq 28, 3) := by decide +kernel
theorem dL_law_358 : decode cL_law 358 = .ok (.iconst 0, 1) := by decide +kernel
theorem dL_law_359 : decode cL_law 359 = .ok (.ireturn, 1) := by decide +kernel
theorem dL_law_360 : decode cL_law 360 = .ok (.aload_n 1, 1) := by decide +kernel
theorem dL_law_361 : decode cL_law 361 = .ok (.aload_n 0, 1) := by decide +kernel
theorem dL_law_362 : decode cL_law 362 = .ok (.iload_n 3, 1) := by decide +kernel
theorem dL_law_363 : decode cL_law 363 = .ok (.iconst 1, 1) := by decide +kernel
theorem dL_law_364 : decode cL_law 364 = .ok (.iadd, 1) := by decide +kernel
theorem dL_law_365 : decode cL_law 365 = .ok (.iaload, 1) := by decide +kernel
theorem dL_law_366 : decode cL_law 366 = .ok (.invokevirtual 73, 3) := by decide +kernel
theorem dL_law_369 : decode cL_law 369 = .ok (.aload_n 2, 1) := by decide +kernel
theorem dL_law_370 : decode cL_law 370 = .ok (.aload_n 0, 1) := by decide +kernel
theorem dL_law_371 : decode cL_law 371 = .ok (.iload_n 3, 1) := by decide +kernel
theorem dL_law_372 : decode cL_law 372 = .ok (.iconst 1, 1) := by decide +kernel
theorem dL_law_373 : decode cL_law 373 = .ok (.iadd, 1) := by decide +kernel
theorem dL_law_374 : decode cL_law 374 = .ok (.iaload, 1) := by decide +kernel
theorem dL_law_375 : decode cL_law 375 = .ok (.invokevirtual 76, 3) := by decide +kernel
theorem dL_law_378 : decode cL_law 378 = .ok (.if_icmp .eq 5, 3) := by decide +kernel
theorem dL_law_381 : decode cL_law 381 = .ok (.iconst 0, 1) := by decide +kernel
theorem dL_law_382 : decode cL_law 382 = .ok (.ireturn, 1) := by decide +kernel
theorem dL_law_383 : decode cL_law 383 = .ok (.iinc 3 4, 3) := by decide +kernel
theorem dL_law_386 : decode cL_law 386 = .ok (.goto (-368), 3) := by decide +kernel
theorem dL_law_389 : decode cL_law 389 = .ok (.iconst 1, 1) := by decide +kernel
theorem dL_law_390 : decode cL_law 390 = .ok (.ireturn, 1) := by decide +kernel
theorem q18 : (Jvm.Cond.initialized "AlignmentDeskLaw") ∈ lw_all := lw_g (lw_at lw_m1 0 rfl) rfl
set_option maxRecDepth 100000
theorem q21 : (Jvm.Cond.classLink "AlignmentDeskLaw" (7 : Nat) "AlignmentDesk") ∈ lw_all := lw_g (lw_at lw_m1 3 rfl) rfl
theorem q23 : (Jvm.Cond.methodLink "AlignmentDeskLaw" (9 : Nat) ({ cls := "AlignmentDesk", name := "<init>", desc := "()V" } : Jvm.MethodName)) ∈ lw_all := lw_g (lw_at lw_m1 5 rfl) rfl
theorem q56 : (Jvm.Cond.methodLink "AlignmentDeskLaw" (13 : Nat) ({ cls := "AlignmentDesk", name := "frame", desc := "(I)I" } : Jvm.MethodName)) ∈ lw_all := lw_g (lw_at lw_m1 38 rfl) rfl
theorem q60 : (Jvm.Cond.methodLink "AlignmentDeskLaw" (18 : Nat) ({ cls := "AlignmentDesk", name := "dropFrame", desc := "()I" } : Jvm.MethodName)) ∈ lw_all := lw_g (lw_at lw_m1 42 rfl) rfl
theorem q64 : (Jvm.Cond.methodLink "AlignmentDeskLaw" (23 : Nat) ({ cls := "AlignmentDesk", name := "weigh", desc := "(III)Z" } : Jvm.MethodName)) ∈ lw_all := lw_g (lw_at lw_m1 46 rfl) rfl
theorem q75 : (Jvm.Cond.methodLink "AlignmentDeskLaw" (28 : Nat) ({ cls := "AlignmentDesk", name := "write", desc := "(I)I" } : Jvm.MethodName)) ∈ lw_all := lw_g (lw_at lw_m1 57 rfl) rfl
theorem q79 : (Jvm.Cond.methodLink "AlignmentDeskLaw" (32 : Nat) ({ cls := "AlignmentDesk", name := "rub", desc := "()I" } : Jvm.MethodName)) ∈ lw_all := lw_g (lw_at lw_m1 61 rfl) rfl
theorem q83 : (Jvm.Cond.methodLink "AlignmentDeskLaw" (36 : Nat) ({ cls := "AlignmentDesk", name := "frames", desc := "()I" } : Jvm.MethodName)) ∈ lw_all := lw_g (lw_at lw_m1 65 rfl) rfl
theorem q87 : (Jvm.Cond.methodLink "AlignmentDeskLaw" (40 : Nat) ({ cls := "AlignmentDesk", name := "length", desc := "()I" } : Jvm.MethodName)) ∈ lw_all := lw_g (lw_at lw_m1 69 rfl) rfl
theorem q91 : (Jvm.Cond.methodLink "AlignmentDeskLaw" (44 : Nat) ({ cls := "AlignmentDesk", name := "total", desc := "()I" } : Jvm.MethodName)) ∈ lw_all := lw_g (lw_at lw_m1 73 rfl) rfl
theorem q119 : (Jvm.Cond.methodLink "AlignmentDeskLaw" (48 : Nat) ({ cls := "AlignmentDesk", name := "paths", desc := "()I" } : Jvm.MethodName)) ∈ lw_all := lw_g (lw_at lw_m1 101 rfl) rfl
theorem q123 : (Jvm.Cond.methodLink "AlignmentDeskLaw" (52 : Nat) ({ cls := "AlignmentDesk", name := "best", desc := "()I" } : Jvm.MethodName)) ∈ lw_all := lw_g (lw_at lw_m1 105 rfl) rfl
theorem q139 : (Jvm.Cond.methodLink "AlignmentDeskLaw" (56 : Nat) ({ cls := "AlignmentDesk", name := "through", desc := "(II)I" } : Jvm.MethodName)) ∈ lw_all := lw_g (lw_at lw_m1 121 rfl) rfl
theorem q143 : (Jvm.Cond.methodLink "AlignmentDeskLaw" (61 : Nat) ({ cls := "AlignmentDesk", name := "prefix", desc := "()I" } : Jvm.MethodName)) ∈ lw_all := lw_g (lw_at lw_m1 125 rfl) rfl
theorem q155 : (Jvm.Cond.methodLink "AlignmentDeskLaw" (65 : Nat) ({ cls := "AlignmentDesk", name := "everything", desc := "()I" } : Jvm.MethodName)) ∈ lw_all := lw_g (lw_at lw_m1 137 rfl) rfl
theorem q156 : (Jvm.Cond.methodLink "AlignmentDeskLaw" (69 : Nat) ({ cls := "AlignmentDesk", name := "bestNext", desc := "()I" } : Jvm.MethodName)) ∈ lw_all := lw_g (lw_at lw_m1 138 rfl) rfl
theorem q163 : (Jvm.Cond.methodLink "AlignmentDeskLaw" (73 : Nat) ({ cls := "AlignmentDesk", name := "bestAt", desc := "(I)I" } : Jvm.MethodName)) ∈ lw_all := lw_g (lw_at lw_m1 145 rfl) rfl
theorem q167 : (Jvm.Cond.classLink "AlignmentDeskLaw" (10 : Nat) "AlignmentDeskModel") ∈ lw_all := lw_g (lw_at lw_m1 149 rfl) rfl
theorem q169 : (Jvm.Cond.methodLink "AlignmentDeskLaw" (12 : Nat) ({ cls := "AlignmentDeskModel", name := "<init>", desc := "()V" } : Jvm.MethodName)) ∈ lw_all := lw_g (lw_at lw_m1 151 rfl) rfl
theorem q192 : (Jvm.Cond.methodLink "AlignmentDeskLaw" (17 : Nat) ({ cls := "AlignmentDeskModel", name := "frame", desc := "(I)I" } : Jvm.MethodName)) ∈ lw_all := lw_g (lw_at lw_m1 174 rfl) rfl
theorem q196 : (Jvm.Cond.methodLink "AlignmentDeskLaw" (22 : Nat) ({ cls := "AlignmentDeskModel", name := "dropFrame", desc := "()I" } : Jvm.MethodName)) ∈ lw_all := lw_g (lw_at lw_m1 178 rfl) rfl
theorem q200 : (Jvm.Cond.methodLink "AlignmentDeskLaw" (27 : Nat) ({ cls := "AlignmentDeskModel", name := "weigh", desc := "(III)Z" } : Jvm.MethodName)) ∈ lw_all := lw_g (lw_at lw_m1 182 rfl) rfl
theorem q212 : (Jvm.Cond.methodLink "AlignmentDeskLaw" (31 : Nat) ({ cls := "AlignmentDeskModel", name := "write", desc := "(I)I" } : Jvm.MethodName)) ∈ lw_all := lw_g (lw_at lw_m1 194 rfl) rfl
theorem q216 : (Jvm.Cond.methodLink "AlignmentDeskLaw" (35 : Nat) ({ cls := "AlignmentDeskModel", name := "rub", desc := "()I" } : Jvm.MethodName)) ∈ lw_all := lw_g (lw_at lw_m1 198 rfl) rfl
theorem q220 : (Jvm.Cond.methodLink "AlignmentDeskLaw" (39 : Nat) ({ cls := "AlignmentDeskModel", name := "frames", desc := "()I" } : Jvm.MethodName)) ∈ lw_all := lw_g (lw_at lw_m1 202 rfl) rfl
theorem q224 : (Jvm.Cond.methodLink "AlignmentDeskLaw" (43 : Nat) ({ cls := "AlignmentDeskModel", name := "length", desc := "()I" } : Jvm.MethodName)) ∈ lw_all := lw_g (lw_at lw_m1 206 rfl) rfl
theorem q228 : (Jvm.Cond.methodLink "AlignmentDeskLaw" (47 : Nat) ({ cls := "AlignmentDeskModel", name := "total", desc := "()I" } : Jvm.MethodName)) ∈ lw_all := lw_g (lw_at lw_m1 210 rfl) rfl
theorem q248 : (Jvm.Cond.methodLink "AlignmentDeskLaw" (51 : Nat) ({ cls := "AlignmentDeskModel", name := "paths", desc := "()I" } : Jvm.MethodName)) ∈ lw_all := lw_g (lw_at lw_m1 230 rfl) rfl
theorem q252 : (Jvm.Cond.methodLink "AlignmentDeskLaw" (55 : Nat) ({ cls := "AlignmentDeskModel", name := "best", desc := "()I" } : Jvm.MethodName)) ∈ lw_all := lw_g (lw_at lw_m1 234 rfl) rfl
theorem q260 : (Jvm.Cond.methodLink "AlignmentDeskLaw" (60 : Nat) ({ cls := "AlignmentDeskModel", name := "through", desc := "(II)I" } : Jvm.MethodName)) ∈ lw_all := lw_g (lw_at lw_m2 2 rfl) rfl
theorem q264 : (Jvm.Cond.methodLink "AlignmentDeskLaw" (64 : Nat) ({ cls := "AlignmentDeskModel", name := "prefix", desc := "()I" } : Jvm.MethodName)) ∈ lw_all := lw_g (lw_at lw_m2 6 rfl) rfl
theorem q268 : (Jvm.Cond.methodLink "AlignmentDeskLaw" (68 : Nat) ({ cls := "AlignmentDeskModel", name := "everything", desc := "()I" } : Jvm.MethodName)) ∈ lw_all := lw_g (lw_at lw_m2 10 rfl) rfl
theorem q272 : (Jvm.Cond.methodLink "AlignmentDeskLaw" (72 : Nat) ({ cls := "AlignmentDeskModel", name := "bestNext", desc := "()I" } : Jvm.MethodName)) ∈ lw_all := lw_g (lw_at lw_m2 14 rfl) rfl
theorem q279 : (Jvm.Cond.methodLink "AlignmentDeskLaw" (76 : Nat) ({ cls := "AlignmentDeskModel", name := "bestAt", desc := "(I)I" } : Jvm.MethodName)) ∈ lw_all := lw_g (lw_at lw_m2 21 rfl) rfl
theorem q54 : (Jvm.Cond.arrayClass Jvm.ClassFile.FieldType.byte) ∈ lw_all := lw_g (lw_at lw_m1 36 rfl) rfl
set_option maxRecDepth 100000
theorem q55 : (Jvm.Cond.arrayClass Jvm.ClassFile.FieldType.int) ∈ lw_all := lw_g (lw_at lw_m1 37 rfl) rfl
end
section
/-! ROWS OVER INTEGERS: every int on the stack is zI of an integer; locals by their places -/
section ZI
def zI (x : Int) : Int32 := Int32.ofInt x
theorem zI_add (a b : Int) : zI a + zI b = zI (a + b) := (Int32.ofInt_add a b).symm
theorem zI_sub (a b : Int) : zI a - zI b = zI (a - b) := (Int32.ofInt_sub a b).symm
theorem zI_mul (a b : Int) : zI a * zI b = zI (a * b) := (Int32.ofInt_mul a b).symm
theorem zI_nat (n : Nat) : zI (n : Int) = nI n := Int32.ofInt_eq_ofNat
theorem zI_toInt {a : Int} (h : -2147483648 ≤ a ∧ a < 2147483648) : (zI a).toInt = a := Int32.toInt_ofInt_of_le (by omega) (by omega)
theorem zI_of (x : Int32) : ∃ a : Int, (-2147483648 ≤ a ∧ a < 2147483648) ∧ x = zI a := by
  refine ⟨x.toInt, ⟨?_, ?_⟩, (Int32.ofInt_toInt x).symm⟩
  · have := Int32.le_toInt x; omega
  · have := Int32.toInt_lt x; omega
theorem zI_0 : zI 0 = 0 := by decide
theorem zI_eq {a b : Int} (ha : -2147483648 ≤ a ∧ a < 2147483648) (hb : -2147483648 ≤ b ∧ b < 2147483648) : zI a = zI b ↔ a = b := by
  constructor
  · intro h
    have := congrArg Int32.toInt h
    rwa [zI_toInt ha, zI_toInt hb] at this
  · intro h
    rw [h]
theorem zI_lt {a b : Int} (ha : -2147483648 ≤ a ∧ a < 2147483648) (hb : -2147483648 ≤ b ∧ b < 2147483648) : zI a < zI b ↔ a < b := by
  rw [Int32.lt_iff_toInt_lt, zI_toInt ha, zI_toInt hb]
theorem zI_le {a b : Int} (ha : -2147483648 ≤ a ∧ a < 2147483648) (hb : -2147483648 ≤ b ∧ b < 2147483648) : zI a ≤ zI b ↔ a ≤ b := by
  rw [Int32.le_iff_toInt_le, zI_toInt ha, zI_toInt hb]
theorem zI_clamp {j : Nat} (h : j < 2147483648) : (zI (j : Int)).toNatClampNeg = j := by
  rw [zI_nat]; exact nI_clamp (by omega)
theorem zI_in {j N : Nat} (h : j < N) (hN : N < 2147483648) : vp_in (zI (j : Int)) N := by
  rw [zI_nat]; exact vp_in_nI h (by omega)
theorem zI_byte {a : Int} (h : -128 ≤ a ∧ a < 128) : (zI a).toInt8.toInt32 = zI a := by
  unfold zI
  rw [Int32.toInt8_ofInt]
  have h1 : (Int8.ofInt a).toInt = a := Int8.toInt_ofInt_of_le (by omega) (by omega)
  rw [← Int32.ofInt_int8ToInt, h1]
theorem zI_div {a b : Int} (ha : 0 ≤ a ∧ a < 2147483648) (hb : 0 < b ∧ b < 2147483648) : zI a / zI b = zI (a / b) := by
  obtain ⟨x, rfl⟩ := Int.eq_ofNat_of_zero_le ha.1
  obtain ⟨y, rfl⟩ := Int.eq_ofNat_of_zero_le (Int.le_of_lt hb.1)
  rw [show ((x : Int) / (y : Int)) = ((x / y : Nat) : Int) from rfl, zI_nat, zI_nat, zI_nat]
  exact pk_div (by omega) (by omega) (by omega)
theorem zI_rem {a b : Int} (ha : 0 ≤ a ∧ a < 2147483648) (hb : 0 < b ∧ b < 2147483648) : zI a - zI a / zI b * zI b = zI (a % b) := by
  rw [zI_div ha hb, zI_mul, zI_sub, Int.emod_def, Int.mul_comm b]
theorem zI_and {a b : Nat} (ha : a < 4294967296) (k : Nat) (hb : (zI (b : Int)).toBitVec.toNat = 2 ^ k - 1) : zI (a : Int) &&& zI (b : Int) = zI ((a % 2 ^ k : Nat) : Int) := by
  rw [zI_nat a, zI_nat (a % 2 ^ k)]
  exact pk_andN (by omega) k hb
theorem zI_amt : ∀ b : Nat, b < 32 → ((zI (b : Int) &&& 31).toBitVec.smod 32).toNat = b := by decide +kernel
theorem zI_shr {a b : Nat} (ha : a < 2147483648) (hb : b < 32) : zI (a : Int) >>> (zI (b : Int) &&& 31) = zI ((a / 2 ^ b : Nat) : Int) := by
  rw [zI_nat a, zI_nat (a / 2 ^ b)]
  exact pk_shrN (by omega) _ b (zI_amt b hb)
theorem zI_shl {a b : Nat} (hb : b < 32) (h : a * 2 ^ b < 4294967296) : zI (a : Int) <<< (zI (b : Int) &&& 31) = zI ((a * 2 ^ b : Nat) : Int) := by
  rw [zI_nat a, zI_nat (a * 2 ^ b)]
  exact pk_shlN _ b (zI_amt b hb) (by omega)
end ZI
section LZ
/-- the locals by their places: what stands there as 'some' is held, and is of one slot -/
def lz (ls : Array Slot) (nL : Nat) (vs : List (Option Value)) : Prop := ls.size = nL ∧ lv_wf ls ∧ ∀ (i : Nat) (v : Value), vs[i]? = some (some v) → ls[i]? = some (.val v) ∧ v.category = 1
theorem lz.at {ls : Array Slot} {nL : Nat} {vs : List (Option Value)} (h : lz ls nL vs) {i : Nat} {v : Value} (hv : vs[i]? = some (some v)) : ls[i]? = some (.val v) := (h.2.2 i v hv).1
def lz_l (vs : List (Option Value)) : List (Nat × Value) := (List.range vs.length).filterMap (fun i => (vs[i]?.getD none).map (fun v => (i, v)))
theorem lz_l_in {vs : List (Option Value)} {i : Nat} {v : Value} : (i, v) ∈ lz_l vs ↔ vs[i]? = some (some v) := by
  unfold lz_l
  rw [List.mem_filterMap]
  constructor
  · rintro ⟨j, hj, he⟩
    cases hg : vs[j]? with
    | none => rw [hg] at he; simp at he
    | some o =>
      rw [hg] at he
      cases o with
      | none => simp at he
      | some w => simp at he; obtain ⟨rfl, rfl⟩ := he; exact hg
  · intro h
    refine ⟨i, ?_, by rw [h]; rfl⟩
    rw [List.mem_range]
    exact (List.getElem?_eq_some_iff.mp h).1
theorem lz.has {ls : Array Slot} {nL : Nat} {vs : List (Option Value)} (h : lz ls nL vs) : lv_has ls nL (lz_l vs) := ⟨h.1, h.2.1, fun q hq => (h.2.2 q.1 q.2 (lz_l_in.mp hq)).1⟩
theorem lz.stored {ls ls' : Array Slot} {nL : Nat} {vs : List (Option Value)} {i : Nat} {v : Value} (h : lz ls nL vs) (hc : v.category = 1) (h' : lv_has ls' nL ((i, v) :: (lz_l vs).filter (fun q => !(q.1 == i) && !(q.1 + 1 == i && q.2.category == 2)))) : lz ls' nL (vs.set i (some v)) := by
  refine ⟨h'.1, h'.2.1, fun j w hj => ?_⟩
  rw [List.getElem?_set] at hj
  by_cases hji : i = j
  · subst hji
    rw [if_pos rfl] at hj
    split at hj
    · obtain rfl : v = w := by simpa using hj
      exact ⟨h'.2.2 (i, v) List.mem_cons_self, hc⟩
    · cases hj
  · rw [if_neg hji] at hj
    have h1 := (h.2.2 j w hj).2
    refine ⟨h'.2.2 (j, w) (List.mem_cons_of_mem _ (List.mem_filter.mpr ⟨lz_l_in.mpr hj, ?_⟩)), h1⟩
    have h2 : ¬ j = i := fun q => hji q.symm
    simp [h2, h1]
def lz_k : List Bool → List (Option Value) → List (Option Value)
  | b :: bs, v :: vs => (match b with | true => v | false => none) :: lz_k bs vs
  | _, _ => []
theorem lz_k_at : ∀ (bs : List Bool) (vs : List (Option Value)) (i : Nat) (v : Value), (lz_k bs vs)[i]? = some (some v) → vs[i]? = some (some v)
  | [], vs, i, v, h => by simp [lz_k] at h
  | _ :: _, [], i, v, h => by simp [lz_k] at h
  | b :: bs, w :: vs, 0, v, h => by
    cases b with
    | true => simpa [lz_k] using h
    | false => simp [lz_k] at h
  | b :: bs, w :: vs, i + 1, v, h => by
    have := lz_k_at bs vs i v (by simpa [lz_k] using h)
    simpa using this
/-- fewer places are held -/
theorem lz.keep {ls : Array Slot} {nL : Nat} {vs : List (Option Value)} (bs : List Bool) (h : lz ls nL vs) : lz ls nL (lz_k bs vs) := ⟨h.1, h.2.1, fun i v hv => h.2.2 i v (lz_k_at bs vs i v hv)⟩
theorem lz_entry_at : ∀ (av : List Value) (b i : Nat) (v : Value), (∀ w ∈ av, w.category = 1) → av[i]? = some v → (b + i, v) ∈ lv_args b av
  | [], b, i, v, _, h => by simp at h
  | w :: av, b, 0, v, _, h => by
    obtain rfl : w = v := by simpa using h
    exact List.mem_cons_self
  | w :: av, b, i + 1, v, hc, h => by
    have hw := hc w List.mem_cons_self
    unfold lv_args
    rw [if_neg (by omega)]
    have := lz_entry_at av (b + 1) i v (fun x hx => hc x (List.mem_cons_of_mem _ hx)) (by simpa using h)
    rw [show b + 1 + i = b + (i + 1) by omega] at this
    exact List.mem_cons_of_mem _ this
def lz_0 (av : List Value) (nL : Nat) : List (Option Value) := av.map some ++ List.replicate (nL - av.length) none
theorem lz_entry {ls : Array Slot} {nL : Nat} {av : List Value} (hc : ∀ w ∈ av, w.category = 1) (h : lv_has ls nL (lv_args 0 av)) : lz ls nL (lz_0 av nL) := by
  refine ⟨h.1, h.2.1, fun i v hv => ?_⟩
  unfold lz_0 at hv
  rw [List.getElem?_append] at hv
  split at hv
  · rw [List.getElem?_map] at hv
    have hv2 : av[i]? = some v := by
      cases hg : av[i]? with
      | none => rw [hg] at hv; simp at hv
      | some w => rw [hg] at hv; simp at hv; rw [hv]
    have := h.2.2 (0 + i, v) (lz_entry_at av 0 i v hc hv2)
    rw [Nat.zero_add] at this
    exact ⟨this, hc v (List.mem_of_getElem? hv2)⟩
  · rw [List.getElem?_replicate] at hv
    split at hv <;> simp at hv
end LZ
section FX
/-- what stands all through a method's run -/
def fx (p : Program) (m : MethodId) (meth : Method) (c : Code) (s : State) (args : Array Value) (cc : ByteArray) (nL : Nat) (own : String) (A : Nat → Prop) : Prop :=
  p.tables.exec = Jvm.exec ∧ c.code = cc ∧ c.maxLocals = nL ∧ s.vm.findClass own = some m.cls ∧ (∀ w ∈ lw_all, w.before args s = true) ∧ meth.locks = false ∧ (∀ q : Nat, s.heap.size ≤ q → A q)
variable {p : Program} {l : Launch} {e : Env} {R : Room} {s : State} {m : MethodId} {args : Array Value} {below : List Frame} {meth : Method} {c : Code} {H : Heap} {locs : List Loc} {cells slots : Nat} {Q : State → Prop}
variable {cc : ByteArray} {pc : Nat} {ls : Array Slot} {rest : List Value} {nL : Nat} {own : String} {A : Nat → Prop} {vs : List (Option Value)}
theorem z_iconst (F : fx p m meth c s args cc nL own A) {n : Int} (hdg : decode cc pc = .ok (.iconst n, 1)) (k : W p l e R s m args below meth c H locs cells slots Q (F0 m (pc + 1) ls (.int (zI n) :: rest))) : W p l e R s m args below meth c H locs cells slots Q (F0 m pc ls rest) := lv_iconst F.1 F.2.1 hdg rfl k
theorem z_bipush (F : fx p m meth c s args cc nL own A) {n : Int} (hdg : decode cc pc = .ok (.bipush n, 2)) (k : W p l e R s m args below meth c H locs cells slots Q (F0 m (pc + 2) ls (.int (zI n) :: rest))) (hv : (Int8.ofInt n).toInt32 = zI n := by decide) : W p l e R s m args below meth c H locs cells slots Q (F0 m pc ls rest) := lv_bipush F.1 F.2.1 hdg hv k
theorem z_sipush (F : fx p m meth c s args cc nL own A) {n : Int} (hdg : decode cc pc = .ok (.sipush n, 3)) (k : W p l e R s m args below meth c H locs cells slots Q (F0 m (pc + 3) ls (.int (zI n) :: rest))) (hv : (Int16.ofInt n).toInt32 = zI n := by decide) : W p l e R s m args below meth c H locs cells slots Q (F0 m pc ls rest) := lv_sipush F.1 F.2.1 hdg hv k
theorem z_iload_n (F : fx p m meth c s args cc nL own A) (hl : lz ls nL vs) {j : Fin 4} {a : Int} (hdg : decode cc pc = .ok (.iload_n j, 1)) (hv : vs[(j : Nat)]? = some (some (.int (zI a)))) (k : W p l e R s m args below meth c H locs cells slots Q (F0 m (pc + 1) ls (.int (zI a) :: rest))) : W p l e R s m args below meth c H locs cells slots Q (F0 m pc ls rest) := lv_iload_n F.1 F.2.1 hdg rfl (hl.at hv) k
theorem z_iload (F : fx p m meth c s args cc nL own A) (hl : lz ls nL vs) {j : Nat} {a : Int} (hdg : decode cc pc = .ok (.iload j, 2)) (hv : vs[j]? = some (some (.int (zI a)))) (k : W p l e R s m args below meth c H locs cells slots Q (F0 m (pc + 2) ls (.int (zI a) :: rest))) : W p l e R s m args below meth c H locs cells slots Q (F0 m pc ls rest) := lv_iload F.1 F.2.1 hdg (hl.at hv) k
theorem z_aload_n (F : fx p m meth c s args cc nL own A) (hl : lz ls nL vs) {j : Fin 4} {a : Nat} (hdg : decode cc pc = .ok (.aload_n j, 1)) (hv : vs[(j : Nat)]? = some (some (.ref a))) (k : W p l e R s m args below meth c H locs cells slots Q (F0 m (pc + 1) ls (.ref a :: rest))) : W p l e R s m args below meth c H locs cells slots Q (F0 m pc ls rest) := lv_aload_n F.1 F.2.1 hdg rfl (hl.at hv) k
theorem z_istore_n (F : fx p m meth c s args cc nL own A) (hl : lz ls nL vs) {j : Fin 4} {a : Int} (hdg : decode cc pc = .ok (.istore_n j, 1)) (k : ∀ ls' : Array Slot, lz ls' nL (vs.set (j : Nat) (some (.int (zI a)))) → W p l e R s m args below meth c H locs cells slots Q (F0 m (pc + 1) ls' rest)) (hn : (j : Nat) < nL := by decide) : W p l e R s m args below meth c H locs cells slots Q (F0 m pc ls (.int (zI a) :: rest)) :=
  lv_istore_n F.1 F.2.1 hdg rfl hl.has hn rfl (fun ls' h' => k ls' (hl.stored rfl h'))
theorem z_istore (F : fx p m meth c s args cc nL own A) (hl : lz ls nL vs) {j : Nat} {a : Int} (hdg : decode cc pc = .ok (.istore j, 2)) (k : ∀ ls' : Array Slot, lz ls' nL (vs.set j (some (.int (zI a)))) → W p l e R s m args below meth c H locs cells slots Q (F0 m (pc + 2) ls' rest)) (hn : j < nL := by decide) : W p l e R s m args below meth c H locs cells slots Q (F0 m pc ls (.int (zI a) :: rest)) :=
  lv_istore F.1 F.2.1 hdg hl.has hn rfl (fun ls' h' => k ls' (hl.stored rfl h'))
theorem z_astore_n (F : fx p m meth c s args cc nL own A) (hl : lz ls nL vs) {j : Fin 4} {a : Nat} (hdg : decode cc pc = .ok (.astore_n j, 1)) (k : ∀ ls' : Array Slot, lz ls' nL (vs.set (j : Nat) (some (.ref a))) → W p l e R s m args below meth c H locs cells slots Q (F0 m (pc + 1) ls' rest)) (hn : (j : Nat) < nL := by decide) : W p l e R s m args below meth c H locs cells slots Q (F0 m pc ls (.ref a :: rest)) :=
  lv_astore_n F.1 F.2.1 hdg rfl hl.has hn rfl (fun ls' h' => k ls' (hl.stored rfl h'))
theorem z_iinc (F : fx p m meth c s args cc nL own A) (hl : lz ls nL vs) {j : Nat} {a n : Int} (b : Int) (hdg : decode cc pc = .ok (.iinc j n, 3)) (hv : vs[j]? = some (some (.int (zI a)))) (k : ∀ ls' : Array Slot, lz ls' nL (vs.set j (some (.int (zI b)))) → W p l e R s m args below meth c H locs cells slots Q (F0 m (pc + 3) ls' rest)) (hb : a + n = b := by omega) (hn : j < nL := by decide) : W p l e R s m args below meth c H locs cells slots Q (F0 m pc ls rest) := by
  obtain ⟨i, hi⟩ := List.getElem?_of_mem (lz_l_in.mpr hv)
  exact lv_iinc (v := zI b) F.1 F.2.1 hdg hl.has hi (by rw [← hb]; exact zI_add a n) hn rfl (fun ls' h' => k ls' (hl.stored rfl h'))
theorem z_iadd (F : fx p m meth c s args cc nL own A) {a b : Int} (hdg : decode cc pc = .ok (.iadd, 1)) (k : W p l e R s m args below meth c H locs cells slots Q (F0 m (pc + 1) ls (.int (zI (a + b)) :: rest))) : W p l e R s m args below meth c H locs cells slots Q (F0 m pc ls (.int (zI b) :: .int (zI a) :: rest)) := lv_iadd F.1 F.2.1 hdg (by rw [zI_add]; exact k)
theorem z_isub (F : fx p m meth c s args cc nL own A) {a b : Int} (hdg : decode cc pc = .ok (.isub, 1)) (k : W p l e R s m args below meth c H locs cells slots Q (F0 m (pc + 1) ls (.int (zI (a - b)) :: rest))) : W p l e R s m args below meth c H locs cells slots Q (F0 m pc ls (.int (zI b) :: .int (zI a) :: rest)) := lv_isub F.1 F.2.1 hdg (by rw [zI_sub]; exact k)
theorem z_imul (F : fx p m meth c s args cc nL own A) {a b : Int} (hdg : decode cc pc = .ok (.imul, 1)) (k : W p l e R s m args below meth c H locs cells slots Q (F0 m (pc + 1) ls (.int (zI (a * b)) :: rest))) : W p l e R s m args below meth c H locs cells slots Q (F0 m pc ls (.int (zI b) :: .int (zI a) :: rest)) := lv_imul F.1 F.2.1 hdg (by rw [zI_mul]; exact k)
theorem z_ne0 {b : Int} (hb : 0 < b ∧ b < 2147483648) : ¬ zI b = 0 := by
  rw [← zI_0]
  intro h
  have := (zI_eq (by omega) (by omega)).mp h
  omega
theorem z_idiv (F : fx p m meth c s args cc nL own A) {a b : Int} (hdg : decode cc pc = .ok (.idiv, 1)) (k : W p l e R s m args below meth c H locs cells slots Q (F0 m (pc + 1) ls (.int (zI (a / b)) :: rest))) (ha : 0 ≤ a ∧ a < 2147483648 := by omega) (hb : 0 < b ∧ b < 2147483648 := by omega) : W p l e R s m args below meth c H locs cells slots Q (F0 m pc ls (.int (zI b) :: .int (zI a) :: rest)) := lv_idiv F.1 F.2.1 hdg (z_ne0 hb) (by rw [zI_div ha hb]; exact k)
theorem z_irem (F : fx p m meth c s args cc nL own A) {a b : Int} (hdg : decode cc pc = .ok (.irem, 1)) (k : W p l e R s m args below meth c H locs cells slots Q (F0 m (pc + 1) ls (.int (zI (a % b)) :: rest))) (ha : 0 ≤ a ∧ a < 2147483648 := by omega) (hb : 0 < b ∧ b < 2147483648 := by omega) : W p l e R s m args below meth c H locs cells slots Q (F0 m pc ls (.int (zI b) :: .int (zI a) :: rest)) := lv_irem F.1 F.2.1 hdg (z_ne0 hb) (by rw [zI_rem ha hb]; exact k)
theorem z_i2b (F : fx p m meth c s args cc nL own A) {a : Int} (hdg : decode cc pc = .ok (.i2b, 1)) (k : W p l e R s m args below meth c H locs cells slots Q (F0 m (pc + 1) ls (.int (zI a) :: rest))) (ha : -128 ≤ a ∧ a < 128 := by omega) : W p l e R s m args below meth c H locs cells slots Q (F0 m pc ls (.int (zI a) :: rest)) := lv_i2b F.1 F.2.1 hdg (zI_byte ha) k
/-- the number on top under another name -/
theorem z_top {a : Int} (b : Int) (h : a = b) (k : W p l e R s m args below meth c H locs cells slots Q (F0 m pc ls (.int (zI b) :: rest))) : W p l e R s m args below meth c H locs cells slots Q (F0 m pc ls (.int (zI a) :: rest)) := by
  subst h; exact k
theorem z_dup (F : fx p m meth c s args cc nL own A) {a : Nat} (hdg : decode cc pc = .ok (.dup, 1)) (k : W p l e R s m args below meth c H locs cells slots Q (F0 m (pc + 1) ls (.ref a :: .ref a :: rest))) : W p l e R s m args below meth c H locs cells slots Q (F0 m pc ls (.ref a :: rest)) := lv_dup F.1 F.2.1 hdg rfl k
theorem z_pop (F : fx p m meth c s args cc nL own A) {x : Int32} (hdg : decode cc pc = .ok (.pop, 1)) (k : W p l e R s m args below meth c H locs cells slots Q (F0 m (pc + 1) ls rest)) : W p l e R s m args below meth c H locs cells slots Q (F0 m pc ls (.int x :: rest)) := lv_pop F.1 F.2.1 hdg rfl k
theorem z_goto (F : fx p m meth c s args cc nL own A) {off : Int} (tgt : Nat) (hdg : decode cc pc = .ok (.goto off, 3)) (k : W p l e R s m args below meth c H locs cells slots Q (F0 m tgt ls rest)) (ht : (pc : Int) + off = (tgt : Int) := by decide) : W p l e R s m args below meth c H locs cells slots Q (F0 m pc ls rest) := lv_goto F.1 F.2.1 hdg ht k
/-- two ways that meet with a number on the stack -/
theorem z_join (pcJ : Nat) (a : Int) (hB : (∀ b : Int, b = a → W p l e R s m args below meth c H locs cells slots Q (F0 m pcJ ls (.int (zI b) :: rest))) → W p l e R s m args below meth c H locs cells slots Q (F0 m pc ls rest)) (hJ : W p l e R s m args below meth c H locs cells slots Q (F0 m pcJ ls (.int (zI a) :: rest))) : W p l e R s m args below meth c H locs cells slots Q (F0 m pc ls rest) := hB (fun b hb => by subst hb; exact hJ)
theorem z_if_eq (F : fx p m meth c s args cc nL own A) {a off : Int} (tgt : Nat) (hdg : decode cc pc = .ok (.ifCond .eq off, 3)) (kt : a = 0 → W p l e R s m args below meth c H locs cells slots Q (F0 m tgt ls rest)) (kf : ¬ a = 0 → W p l e R s m args below meth c H locs cells slots Q (F0 m (pc + 3) ls rest)) (ha : -2147483648 ≤ a ∧ a < 2147483648 := by omega) (ht : (pc : Int) + off = (tgt : Int) := by decide) : W p l e R s m args below meth c H locs cells slots Q (F0 m pc ls (.int (zI a) :: rest)) :=
  lv_if_eq F.1 F.2.1 hdg ht (fun h => kt ((zI_eq ha (by omega)).mp (by rw [zI_0]; exact h))) (fun h => kf (fun q => h (by rw [← zI_0]; exact (zI_eq ha (by omega)).mpr q)))
theorem z_icmp_eq (F : fx p m meth c s args cc nL own A) {a b off : Int} (tgt : Nat) (hdg : decode cc pc = .ok (.if_icmp .eq off, 3)) (kt : a = b → W p l e R s m args below meth c H locs cells slots Q (F0 m tgt ls rest)) (kf : ¬ a = b → W p l e R s m args below meth c H locs cells slots Q (F0 m (pc + 3) ls rest)) (ha : -2147483648 ≤ a ∧ a < 2147483648 := by omega) (hb : -2147483648 ≤ b ∧ b < 2147483648 := by omega) (ht : (pc : Int) + off = (tgt : Int) := by decide) : W p l e R s m args below meth c H locs cells slots Q (F0 m pc ls (.int (zI b) :: .int (zI a) :: rest)) :=
  lv_icmp_eq F.1 F.2.1 hdg ht (fun h => kt ((zI_eq ha hb).mp h)) (fun h => kf (fun q => h ((zI_eq ha hb).mpr q)))
theorem z_if_ne (F : fx p m meth c s args cc nL own A) {a off : Int} (tgt : Nat) (hdg : decode cc pc = .ok (.ifCond .ne off, 3)) (kt : ¬ a = 0 → W p l e R s m args below meth c H locs cells slots Q (F0 m tgt ls rest)) (kf : a = 0 → W p l e R s m args below meth c H locs cells slots Q (F0 m (pc + 3) ls rest)) (ha : -2147483648 ≤ a ∧ a < 2147483648 := by omega) (ht : (pc : Int) + off = (tgt : Int) := by decide) : W p l e R s m args below meth c H locs cells slots Q (F0 m pc ls (.int (zI a) :: rest)) :=
  lv_if_ne F.1 F.2.1 hdg ht (fun h => kt (fun q => h (by rw [q]; exact zI_0))) (fun h => kf ((zI_eq ha (by omega)).mp (h.trans zI_0.symm)))
theorem z_icmp_ne (F : fx p m meth c s args cc nL own A) {a b off : Int} (tgt : Nat) (hdg : decode cc pc = .ok (.if_icmp .ne off, 3)) (kt : ¬ a = b → W p l e R s m args below meth c H locs cells slots Q (F0 m tgt ls rest)) (kf : a = b → W p l e R s m args below meth c H locs cells slots Q (F0 m (pc + 3) ls rest)) (ha : -2147483648 ≤ a ∧ a < 2147483648 := by omega) (hb : -2147483648 ≤ b ∧ b < 2147483648 := by omega) (ht : (pc : Int) + off = (tgt : Int) := by decide) : W p l e R s m args below meth c H locs cells slots Q (F0 m pc ls (.int (zI b) :: .int (zI a) :: rest)) :=
  lv_icmp_ne F.1 F.2.1 hdg ht (fun h => kt (fun q => h (by rw [q]))) (fun h => kf ((zI_eq ha hb).mp h))
theorem z_if_lt (F : fx p m meth c s args cc nL own A) {a off : Int} (tgt : Nat) (hdg : decode cc pc = .ok (.ifCond .lt off, 3)) (kt : a < 0 → W p l e R s m args below meth c H locs cells slots Q (F0 m tgt ls rest)) (kf : ¬ a < 0 → W p l e R s m args below meth c H locs cells slots Q (F0 m (pc + 3) ls rest)) (ha : -2147483648 ≤ a ∧ a < 2147483648 := by omega) (ht : (pc : Int) + off = (tgt : Int) := by decide) : W p l e R s m args below meth c H locs cells slots Q (F0 m pc ls (.int (zI a) :: rest)) :=
  lv_if_lt F.1 F.2.1 hdg ht (fun h => kt ((zI_lt ha (by omega)).mp (by rw [zI_0]; exact h))) (fun h => kf (fun q => h (by rw [← zI_0]; exact (zI_lt ha (by omega)).mpr q)))
theorem z_icmp_lt (F : fx p m meth c s args cc nL own A) {a b off : Int} (tgt : Nat) (hdg : decode cc pc = .ok (.if_icmp .lt off, 3)) (kt : a < b → W p l e R s m args below meth c H locs cells slots Q (F0 m tgt ls rest)) (kf : ¬ a < b → W p l e R s m args below meth c H locs cells slots Q (F0 m (pc + 3) ls rest)) (ha : -2147483648 ≤ a ∧ a < 2147483648 := by omega) (hb : -2147483648 ≤ b ∧ b < 2147483648 := by omega) (ht : (pc : Int) + off = (tgt : Int) := by decide) : W p l e R s m args below meth c H locs cells slots Q (F0 m pc ls (.int (zI b) :: .int (zI a) :: rest)) :=
  lv_icmp_lt F.1 F.2.1 hdg ht (fun h => kt ((zI_lt ha hb).mp h)) (fun h => kf (fun q => h ((zI_lt ha hb).mpr q)))
theorem z_if_ge (F : fx p m meth c s args cc nL own A) {a off : Int} (tgt : Nat) (hdg : decode cc pc = .ok (.ifCond .ge off, 3)) (kt : 0 ≤ a → W p l e R s m args below meth c H locs cells slots Q (F0 m tgt ls rest)) (kf : ¬ 0 ≤ a → W p l e R s m args below meth c H locs cells slots Q (F0 m (pc + 3) ls rest)) (ha : -2147483648 ≤ a ∧ a < 2147483648 := by omega) (ht : (pc : Int) + off = (tgt : Int) := by decide) : W p l e R s m args below meth c H locs cells slots Q (F0 m pc ls (.int (zI a) :: rest)) :=
  lv_if_ge F.1 F.2.1 hdg ht (fun h => kt ((zI_le (by omega) ha).mp (by rw [zI_0]; exact h))) (fun h => kf (fun q => h (by rw [← zI_0]; exact (zI_le (by omega) ha).mpr q)))
theorem z_icmp_ge (F : fx p m meth c s args cc nL own A) {a b off : Int} (tgt : Nat) (hdg : decode cc pc = .ok (.if_icmp .ge off, 3)) (kt : b ≤ a → W p l e R s m args below meth c H locs cells slots Q (F0 m tgt ls rest)) (kf : ¬ b ≤ a → W p l e R s m args below meth c H locs cells slots Q (F0 m (pc + 3) ls rest)) (ha : -2147483648 ≤ a ∧ a < 2147483648 := by omega) (hb : -2147483648 ≤ b ∧ b < 2147483648 := by omega) (ht : (pc : Int) + off = (tgt : Int) := by decide) : W p l e R s m args below meth c H locs cells slots Q (F0 m pc ls (.int (zI b) :: .int (zI a) :: rest)) :=
  lv_icmp_ge F.1 F.2.1 hdg ht (fun h => kt ((zI_le hb ha).mp h)) (fun h => kf (fun q => h ((zI_le hb ha).mpr q)))
theorem z_if_gt (F : fx p m meth c s args cc nL own A) {a off : Int} (tgt : Nat) (hdg : decode cc pc = .ok (.ifCond .gt off, 3)) (kt : 0 < a → W p l e R s m args below meth c H locs cells slots Q (F0 m tgt ls rest)) (kf : ¬ 0 < a → W p l e R s m args below meth c H locs cells slots Q (F0 m (pc + 3) ls rest)) (ha : -2147483648 ≤ a ∧ a < 2147483648 := by omega) (ht : (pc : Int) + off = (tgt : Int) := by decide) : W p l e R s m args below meth c H locs cells slots Q (F0 m pc ls (.int (zI a) :: rest)) :=
  lv_if_gt F.1 F.2.1 hdg ht (fun h => kt ((zI_lt (by omega) ha).mp (by rw [zI_0]; exact h))) (fun h => kf (fun q => h (by rw [← zI_0]; exact (zI_lt (by omega) ha).mpr q)))
theorem z_icmp_gt (F : fx p m meth c s args cc nL own A) {a b off : Int} (tgt : Nat) (hdg : decode cc pc = .ok (.if_icmp .gt off, 3)) (kt : b < a → W p l e R s m args below meth c H locs cells slots Q (F0 m tgt ls rest)) (kf : ¬ b < a → W p l e R s m args below meth c H locs cells slots Q (F0 m (pc + 3) ls rest)) (ha : -2147483648 ≤ a ∧ a < 2147483648 := by omega) (hb : -2147483648 ≤ b ∧ b < 2147483648 := by omega) (ht : (pc : Int) + off = (tgt : Int) := by decide) : W p l e R s m args below meth c H locs cells slots Q (F0 m pc ls (.int (zI b) :: .int (zI a) :: rest)) :=
  lv_icmp_gt F.1 F.2.1 hdg ht (fun h => kt ((zI_lt hb ha).mp h)) (fun h => kf (fun q => h ((zI_lt hb ha).mpr q)))
theorem z_if_le (F : fx p m meth c s args cc nL own A) {a off : Int} (tgt : Nat) (hdg : decode cc pc = .ok (.ifCond .le off, 3)) (kt : a ≤ 0 → W p l e R s m args below meth c H locs cells slots Q (F0 m tgt ls rest)) (kf : ¬ a ≤ 0 → W p l e R s m args below meth c H locs cells slots Q (F0 m (pc + 3) ls rest)) (ha : -2147483648 ≤ a ∧ a < 2147483648 := by omega) (ht : (pc : Int) + off = (tgt : Int) := by decide) : W p l e R s m args below meth c H locs cells slots Q (F0 m pc ls (.int (zI a) :: rest)) :=
  lv_if_le F.1 F.2.1 hdg ht (fun h => kt ((zI_le ha (by omega)).mp (by rw [zI_0]; exact h))) (fun h => kf (fun q => h (by rw [← zI_0]; exact (zI_le ha (by omega)).mpr q)))
theorem z_icmp_le (F : fx p m meth c s args cc nL own A) {a b off : Int} (tgt : Nat) (hdg : decode cc pc = .ok (.if_icmp .le off, 3)) (kt : a ≤ b → W p l e R s m args below meth c H locs cells slots Q (F0 m tgt ls rest)) (kf : ¬ a ≤ b → W p l e R s m args below meth c H locs cells slots Q (F0 m (pc + 3) ls rest)) (ha : -2147483648 ≤ a ∧ a < 2147483648 := by omega) (hb : -2147483648 ≤ b ∧ b < 2147483648 := by omega) (ht : (pc : Int) + off = (tgt : Int) := by decide) : W p l e R s m args below meth c H locs cells slots Q (F0 m pc ls (.int (zI b) :: .int (zI a) :: rest)) :=
  lv_icmp_le F.1 F.2.1 hdg ht (fun h => kt ((zI_le ha hb).mp h)) (fun h => kf (fun q => h ((zI_le ha hb).mpr q)))
end FX
end
section
/-! WORLDS AND CONTRACTS: a method's contract over a world given as a list of cells; its entry, its end, its call -/
section WD
abbrev vwCl : List vw_C := [(RX0, TX0, 8), (RX1, TX1, 6)]
def wh (D : va_G) (w : va_W) (tys : List (ClassId × FieldType)) (A : Nat → Prop) (s : State) (H : Heap) (locs : List Loc) : Prop := va_K D vwCl tys s ∧ va_P D vwCl w H ∧ va_D A w ∧ va_S A s.heap H locs
def cB (D : va_G) (tys : List (ClassId × FieldType)) (A : Nat → Prop) (w : va_W) (t : State) : Prop := va_P D vwCl w t.heap ∧ va_K D vwCl tys t ∧ va_D A w
def cPc (D : va_G) (tys : List (ClassId × FieldType)) (w0 : va_W) (sz : Nat) (U : State) : Prop := U.heap.size = sz ∧ va_P D vwCl w0 U.heap ∧ va_K D vwCl tys U ∧ va_D (fun _ => True) w0
/-- the method y, called with av on the world w0, returns r and the world w with 'post r w' -/
def Ci (l : Launch) (D : va_G) (tys : List (ClassId × FieldType)) (y : MethodName) (cc : ByteArray) (nL : Nat) (ret : Option FieldType) (fr lo : Nat) (av : List Value) (w0 : va_W) (post : Int32 → va_W → Prop) : Prop :=
  ∀ sz : Nat, Met l y (ws_ y cc nL ret) { frames := fr, cells := 0, slots := 0, locals := lo } (va_Pc av (cPc D tys w0 sz)) (va_Qi post (cB D tys (va_A w0 sz)) (va_A w0 sz)) 0 0 (va_A w0 sz)
def Cv (l : Launch) (D : va_G) (tys : List (ClassId × FieldType)) (y : MethodName) (cc : ByteArray) (nL : Nat) (fr lo : Nat) (av : List Value) (w0 : va_W) (post : va_W → Prop) : Prop :=
  ∀ sz : Nat, Met l y (ws_ y cc nL none) { frames := fr, cells := 0, slots := 0, locals := lo } (va_Pc av (cPc D tys w0 sz)) (va_Qv post (cB D tys (va_A w0 sz)) (va_A w0 sz)) 0 0 (va_A w0 sz)
variable {l : Launch} {D : va_G} {tys : List (ClassId × FieldType)} {y : MethodName} {cc : ByteArray} {nL fr lo : Nat} {av : List Value} {w0 : va_W}
theorem Ci.of {post : Int32 → va_W → Prop} (hy : plainName y.cls = true) (hlen : (lg_sl av).length ≤ nL) (hc : ∀ w ∈ av, w.category = 1)
    (body : ∀ (p : Program) (e : Env) (R : Room) (s : State) (m : MethodId) (args : Array Value) (below : List Frame) (meth : Method) (c : Code) (A : Nat → Prop) (Q : State → Prop) (ls : Array Slot), R.frames = fr → R.locals = lo → fx p m meth c s args cc nL y.cls A → wh D w0 tys A s s.heap [] → lz ls nL (lz_0 av nL) →
      (∀ (v : Int32) (w : va_W) (H : Heap) (locs : List Loc) (pc : Nat) (ls : Array Slot), decode cc pc = .ok (.ireturn, 1) → wh D w tys A s H locs → post v w → W p l e R s m args below meth c H locs 0 0 Q (F0 m pc ls [.int v])) →
      W p l e R s m args below meth c s.heap [] 0 0 Q (F0 m 0 ls [])) : Ci l D tys y cc nL (some .int) fr lo av w0 post := by
  intro sz
  refine Met.ofW (cc := cc) (maxL := nL) (ret := some .int) hy rfl ?_
  intro p e s m args below meth c s₁ B hml hv
  obtain ⟨rfl, hsz, hP, hK, hD0⟩ := hv
  have hts := atoms_spec (ws := ws_ y cc nL (some .int)) B.pre
  have hts : ∀ w ∈ lw_all, w.before _ s = true := fun w h => hts w (List.mem_cons_of_mem _ h)
  have hown : s.vm.findClass y.cls = some m.cls := findClass_of_methodNamed B.named
  subst hsz
  have hD := hD0.self (sz := s.heap.size)
  have hA : ∀ q : Nat, s.heap.size ≤ q → va_A w0 s.heap.size q := fun q h => Or.inr h
  have hl := lv_entry av (n := nL) hlen
  rw [lg_entry_eq]
  exact body p e _ s m _ below meth c (va_A w0 s.heap.size) _ _ rfl rfl ⟨B.exec, B.bytes, hml, hown, hts, B.notSynchronized, hA⟩ ⟨hK, hP, hD, va_S.rf⟩ (lz_entry hc hl) (fun v w H locs pc ls hdg h hp => W.iret (v := v) B.exec B.bytes B.returns (fun t ht hW => ⟨⟨v, w, rfl, hp, by rw [ht]; exact h.2.1, va_K.moved hW.alike h.1, h.2.2.1⟩, h.2.2.2.F ht⟩) h.2.2.2.2.2 hdg (hlocks := B.notSynchronized))
theorem zb_nar {x : Int} (hx : x = 0 ∨ x = 1) : narrow .boolean (.int (zI x)) = .int (zI x) := by
  rcases hx with rfl | rfl <;> decide +kernel
theorem Cz.of {post : Int32 → va_W → Prop} (hy : plainName y.cls = true) (hlen : (lg_sl av).length ≤ nL) (hc : ∀ w ∈ av, w.category = 1)
    (body : ∀ (p : Program) (e : Env) (R : Room) (s : State) (m : MethodId) (args : Array Value) (below : List Frame) (meth : Method) (c : Code) (A : Nat → Prop) (Q : State → Prop) (ls : Array Slot), R.frames = fr → R.locals = lo → fx p m meth c s args cc nL y.cls A → wh D w0 tys A s s.heap [] → lz ls nL (lz_0 av nL) →
      (∀ (x : Int) (w : va_W) (H : Heap) (locs : List Loc) (pc : Nat) (ls : Array Slot), decode cc pc = .ok (.ireturn, 1) → wh D w tys A s H locs → (x = 0 ∨ x = 1) → post (zI x) w → W p l e R s m args below meth c H locs 0 0 Q (F0 m pc ls [.int (zI x)])) →
      W p l e R s m args below meth c s.heap [] 0 0 Q (F0 m 0 ls [])) : Ci l D tys y cc nL (some .boolean) fr lo av w0 post := by
  intro sz
  refine Met.ofW (cc := cc) (maxL := nL) (ret := some .boolean) hy rfl ?_
  intro p e s m args below meth c s₁ B hml hv
  obtain ⟨rfl, hsz, hP, hK, hD0⟩ := hv
  have hts := atoms_spec (ws := ws_ y cc nL (some .boolean)) B.pre
  have hts : ∀ w ∈ lw_all, w.before _ s = true := fun w h => hts w (List.mem_cons_of_mem _ h)
  have hown : s.vm.findClass y.cls = some m.cls := findClass_of_methodNamed B.named
  subst hsz
  have hD := hD0.self (sz := s.heap.size)
  have hA : ∀ q : Nat, s.heap.size ≤ q → va_A w0 s.heap.size q := fun q h => Or.inr h
  have hl := lv_entry av (n := nL) hlen
  rw [lg_entry_eq]
  exact body p e _ s m _ below meth c (va_A w0 s.heap.size) _ _ rfl rfl ⟨B.exec, B.bytes, hml, hown, hts, B.notSynchronized, hA⟩ ⟨hK, hP, hD, va_S.rf⟩ (lz_entry hc hl) (fun x w H locs pc ls hdg h hx hp => W.zret (v := zI x) B.exec B.bytes B.returns (zb_nar hx) (fun t ht hW => ⟨⟨zI x, w, rfl, hp, by rw [ht]; exact h.2.1, va_K.moved hW.alike h.1, h.2.2.1⟩, h.2.2.2.F ht⟩) h.2.2.2.2.2 hdg (hlocks := B.notSynchronized))
theorem Cv.of {post : va_W → Prop} (hy : plainName y.cls = true) (hlen : (lg_sl av).length ≤ nL) (hc : ∀ w ∈ av, w.category = 1)
    (body : ∀ (p : Program) (e : Env) (R : Room) (s : State) (m : MethodId) (args : Array Value) (below : List Frame) (meth : Method) (c : Code) (A : Nat → Prop) (Q : State → Prop) (ls : Array Slot), R.frames = fr → R.locals = lo → fx p m meth c s args cc nL y.cls A → wh D w0 tys A s s.heap [] → lz ls nL (lz_0 av nL) →
      (∀ (w : va_W) (H : Heap) (locs : List Loc) (pc : Nat) (ls : Array Slot), decode cc pc = .ok (.return_, 1) → wh D w tys A s H locs → post w → W p l e R s m args below meth c H locs 0 0 Q (F0 m pc ls [])) →
      W p l e R s m args below meth c s.heap [] 0 0 Q (F0 m 0 ls [])) : Cv l D tys y cc nL fr lo av w0 post := by
  intro sz
  refine Met.ofW (cc := cc) (maxL := nL) (ret := none) hy rfl ?_
  intro p e s m args below meth c s₁ B hml hv
  obtain ⟨rfl, hsz, hP, hK, hD0⟩ := hv
  have hts := atoms_spec (ws := ws_ y cc nL none) B.pre
  have hts : ∀ w ∈ lw_all, w.before _ s = true := fun w h => hts w (List.mem_cons_of_mem _ h)
  have hown : s.vm.findClass y.cls = some m.cls := findClass_of_methodNamed B.named
  subst hsz
  have hD := hD0.self (sz := s.heap.size)
  have hA : ∀ q : Nat, s.heap.size ≤ q → va_A w0 s.heap.size q := fun q h => Or.inr h
  have hl := lv_entry av (n := nL) hlen
  rw [lg_entry_eq]
  exact body p e _ s m _ below meth c (va_A w0 s.heap.size) _ _ rfl rfl ⟨B.exec, B.bytes, hml, hown, hts, B.notSynchronized, hA⟩ ⟨hK, hP, hD, va_S.rf⟩ (lz_entry hc hl) (fun w H locs pc ls hdg h hp => W.vret B.exec B.bytes B.returns (fun t ht hW => ⟨⟨w, rfl, hp, by rw [ht]; exact h.2.1, va_K.moved hW.alike h.1, h.2.2.1⟩, h.2.2.2.F ht⟩) h.2.2.2.2.2 hdg (hlocks := B.notSynchronized))
end WD
section CALL
variable {p : Program} {l : Launch} {e : Env} {R : Room} {s : State} {m : MethodId} {args : Array Value} {below : List Frame} {meth : Method} {c : Code} {H : Heap} {locs : List Loc} {cells slots : Nat} {Q : State → Prop}
variable {cc : ByteArray} {pc : Nat} {ls : Array Slot} {rest : List Value} {nL : Nat} {own : String} {A : Nat → Prop} {vs : List (Option Value)}
variable {D : va_G} {tys : List (ClassId × FieldType)} {y : MethodName} {bytes : ByteArray} {maxL fr lo idx ci n N : Nat} {ret : Option FieldType} {As fs : List Value} {b : Nat} {w0 : va_W} {C : String} {T : u_T} {st0 : List Value}
theorem wh.free (F : fx p m meth c s args cc nL own A) (h : wh D w0 tys A s H locs) : ∀ q, va_A w0 H.size q → A q := by
  intro q hq
  rcases hq with ⟨k, e1, hk⟩ | hq
  · exact h.2.2.1.2 k (q, e1) hk
  · exact F.2.2.2.2.2.2 q (Nat.le_trans h.2.2.2.1 hq)
theorem cPc_blind {sz : Nat} {av : List Value} : FrameBlind (va_Pc av (cPc D tys w0 sz)) := fun a U g mk q => by
  obtain ⟨q0, q1, qP, qK, qD⟩ := q
  exact ⟨q0, q1, qP, va_K.moved (u := U) (U := U.calling g mk a) (Vm.Alike.refl U.vm) qK, qD⟩
theorem ci_call {post : Int32 → va_W → Prop} (F : fx p m meth c s args cc nL own A) (h : wh D w0 tys A s H locs) (hM : Ci l D tys y bytes maxL ret fr lo (.ref b :: As) w0 post)
    (hG : GoodIn lw_all (wsV own idx C y (ws_ y bytes maxL ret))) (hd : y.cls = C ∧ y.cls ≠ "java/lang/invoke/MethodHandle" ∧ y.cls ≠ "java/lang/invoke/VarHandle" ∧ (parseMethodDescriptor y.desc).map (fun d => d.parameters.length) = some n) (hn : As.length = n)
    (he : w0[0]? = some (b, .inr (ci, fs))) (hc : vwCl[ci]? = some (C, T, N)) (hR : fr + 1 ≤ R.frames ∧ 8 + (maxL + 11) + lo ≤ R.locals) (hcs : cells ≤ R.cells ∧ slots ≤ R.slots) (hl : lz ls nL vs) (hst : st0 = As.reverse ++ .ref b :: rest) (hroom : (rest.map fun v => v.category).sum ≤ 8) (hdg : decode cc pc = .ok (.invokevirtual idx, 3))
    (kk : ∀ (r : Int32) (w1 : va_W) (H1 : Heap) (locs1 : List Loc), post r w1 → wh D w1 tys A s H1 locs1 → W p l e R s m args below meth c H1 locs1 cells slots Q (F0 m (pc + 3) ls (.int r :: rest))) : W p l e R s m args below meth c H locs cells slots Q (F0 m pc ls st0) := by
  have hF := h.free F
  refine va_calli (va_runV (As := As) (rest := rest) (b := b) ⟨F.1, F.2.1, F.2.2.1, F.2.2.2.1, F.2.2.2.2.1⟩ (hM H.size) (cwV n F.2.2.2.2.1 hG rfl rfl rfl hd hR) ⟨cPc_blind, va_recv h.1 h.2.1 hc he, fun U hU hW => ⟨rfl, by rw [hU], by rw [hU]; exact h.2.1, va_K.moved hW.alike h.1, h.2.2.1.weaken (fun _ _ _ _ => trivial)⟩⟩ rfl hn hl.1 hst (lv_room hroom) hdg ⟨hcs.1, hcs.2⟩) h.2.2.2 (fun q _ hq => hF q hq) hF (fun r u t H1 locs1 ht hvm hw hB hz1 hk1 hS => ?_)
  obtain ⟨hP1, hK1, hD1⟩ := hB
  rw [ht] at hP1
  exact kk r u H1 locs1 hw ⟨va_K.moved hvm.symm hK1, hP1, hD1.weaken (fun _ _ _ hq => hF _ hq), hS⟩
theorem cv_call {post : va_W → Prop} (F : fx p m meth c s args cc nL own A) (h : wh D w0 tys A s H locs) (hM : Cv l D tys y bytes maxL fr lo (.ref b :: As) w0 post)
    (hG : GoodIn lw_all (wsV own idx C y (ws_ y bytes maxL none))) (hd : y.cls = C ∧ y.cls ≠ "java/lang/invoke/MethodHandle" ∧ y.cls ≠ "java/lang/invoke/VarHandle" ∧ (parseMethodDescriptor y.desc).map (fun d => d.parameters.length) = some n) (hn : As.length = n)
    (he : w0[0]? = some (b, .inr (ci, fs))) (hc : vwCl[ci]? = some (C, T, N)) (hR : fr + 1 ≤ R.frames ∧ 8 + (maxL + 11) + lo ≤ R.locals) (hcs : cells ≤ R.cells ∧ slots ≤ R.slots) (hl : lz ls nL vs) (hst : st0 = As.reverse ++ .ref b :: rest) (hroom : (rest.map fun v => v.category).sum ≤ 8) (hdg : decode cc pc = .ok (.invokevirtual idx, 3))
    (kk : ∀ (w1 : va_W) (H1 : Heap) (locs1 : List Loc), post w1 → wh D w1 tys A s H1 locs1 → W p l e R s m args below meth c H1 locs1 cells slots Q (F0 m (pc + 3) ls rest)) : W p l e R s m args below meth c H locs cells slots Q (F0 m pc ls st0) := by
  have hF := h.free F
  refine va_callv (va_runV (As := As) (rest := rest) (b := b) ⟨F.1, F.2.1, F.2.2.1, F.2.2.2.1, F.2.2.2.2.1⟩ (hM H.size) (cwV n F.2.2.2.2.1 hG rfl rfl rfl hd hR) ⟨cPc_blind, va_recv h.1 h.2.1 hc he, fun U hU hW => ⟨rfl, by rw [hU], by rw [hU]; exact h.2.1, va_K.moved hW.alike h.1, h.2.2.1.weaken (fun _ _ _ _ => trivial)⟩⟩ rfl hn hl.1 hst (lv_room hroom) hdg ⟨hcs.1, hcs.2⟩) h.2.2.2 (fun q _ hq => hF q hq) hF (fun u t H1 locs1 ht hvm hw hB hz1 hk1 hS => ?_)
  obtain ⟨hP1, hK1, hD1⟩ := hB
  rw [ht] at hP1
  exact kk u H1 locs1 hw ⟨va_K.moved hvm.symm hK1, hP1, hD1.weaken (fun _ _ _ hq => hF _ hq), hS⟩
theorem cs_call {post : Int32 → va_W → Prop} (F : fx p m meth c s args cc nL own A) (h : wh D w0 tys A s H locs) (hM : Ci l D tys y bytes maxL ret fr lo As w0 post)
    (hG : GoodIn lw_all (va_wsS own idx y (ws_ y bytes maxL ret))) (hd : y.cls ≠ "java/lang/invoke/MethodHandle" ∧ y.cls ≠ "java/lang/invoke/VarHandle" ∧ (parseMethodDescriptor y.desc).map (fun d => d.parameters.length) = some n) (hn : As.length = n)
    (hR : fr + 1 ≤ R.frames ∧ 8 + (maxL + 11) + lo ≤ R.locals) (hcs : cells ≤ R.cells ∧ slots ≤ R.slots) (hl : lz ls nL vs) (hst : st0 = As.reverse ++ rest) (hroom : (rest.map fun v => v.category).sum ≤ 8) (hdg : decode cc pc = .ok (.invokestatic idx, 3))
    (kk : ∀ (r : Int32) (w1 : va_W) (H1 : Heap) (locs1 : List Loc), post r w1 → wh D w1 tys A s H1 locs1 → W p l e R s m args below meth c H1 locs1 cells slots Q (F0 m (pc + 3) ls (.int r :: rest))) : W p l e R s m args below meth c H locs cells slots Q (F0 m pc ls st0) := by
  have hF := h.free F
  refine va_calli (va_runS (As := As) (rest := rest) ⟨F.1, F.2.1, F.2.2.1, F.2.2.2.1, F.2.2.2.2.1⟩ (hM H.size) (va_cwS n F.2.2.2.2.1 hG rfl rfl rfl hd hR) ⟨cPc_blind, fun U hU hW => ⟨rfl, by rw [hU], by rw [hU]; exact h.2.1, va_K.moved hW.alike h.1, h.2.2.1.weaken (fun _ _ _ _ => trivial)⟩⟩ rfl hn hl.1 hst (lv_room hroom) hdg ⟨hcs.1, hcs.2⟩) h.2.2.2 (fun q _ hq => hF q hq) hF (fun r u t H1 locs1 ht hvm hw hB hz1 hk1 hS => ?_)
  obtain ⟨hP1, hK1, hD1⟩ := hB
  rw [ht] at hP1
  exact kk r u H1 locs1 hw ⟨va_K.moved hvm.symm hK1, hP1, hD1.weaken (fun _ _ _ hq => hF _ hq), hS⟩
end CALL
section UP
/-- an array with one place changed -/
def up1 {α : Type} (f : Nat → α) (k : Nat) (x : α) : Nat → α := fun j => if j = k then x else f j
theorem up1_s {α : Type} {f : Nat → α} {k : Nat} {x : α} : up1 f k x k = x := by simp [up1]
theorem up1_n {α : Type} {f : Nat → α} {k j : Nat} {x : α} (h : j ≠ k) : up1 f k x j = f j := by simp [up1, h]
theorem up1_z {f : Nat → Int} {k : Nat} {x : Int} (hk : k < 2147483648) : upd (fun j => zI (f j)) (zI (k : Int)).toNatClampNeg (zI x) = fun j => zI (up1 f k x j) := by
  rw [zI_clamp hk]
  funext j
  unfold upd up1
  split <;> rfl
theorem up1_c {f : Nat → Nat} {k x : Nat} : (fun j => ((up1 f k x j : Nat) : Int)) = up1 (fun j => ((f j : Nat) : Int)) k (x : Int) := by
  funext j
  unfold up1
  split <;> rfl
theorem nar_b {x : Int} (hx : -128 ≤ x ∧ x < 128) : vp_nar .byte (zI x) = zI x := by rw [vp_nar_byte]; exact zI_byte hx
end UP
section Wdk
def dw (ad : Nat → Nat) (ca : Nat → ClassId) (n : Int) (wt : Nat → Int) (k : Int) (lb : Nat → Nat) (pl : Int) (up : Nat → Int) (on : Nat → Int) (bo : Nat → Int) : va_W := [(ad 0, .inr (0, [.int (zI n), .ref (ad 1), .int (zI k), .ref (ad 2), .int (zI pl), .ref (ad 3), .ref (ad 4), .ref (ad 5)])), (ad 1, .inl (ca 1, 24, .inl (fun j => zI (wt j)))), (ad 2, .inl (ca 2, 4, .inl (fun j => zI ((lb j : Nat) : Int)))), (ad 3, .inl (ca 3, 54, .inl (fun j => zI (up j)))), (ad 4, .inl (ca 4, 54, .inl (fun j => zI (on j)))), (ad 5, .inl (ca 5, 54, .inl (fun j => zI (bo j))))]
def dt (ca : Nat → ClassId) : List (ClassId × FieldType) := [(ca 1, .byte), (ca 2, .byte), (ca 3, .int), (ca 4, .int), (ca 5, .int)]
variable {p : Program} {l : Launch} {e : Env} {R : Room} {s : State} {m : MethodId} {args : Array Value} {below : List Frame} {meth : Method} {c : Code} {H : Heap} {locs : List Loc} {cells slots : Nat} {Q : State → Prop}
variable {cc : ByteArray} {pc : Nat} {ls : Array Slot} {rest : List Value} {nL : Nat} {own : String} {A : Nat → Prop} {vs : List (Option Value)} {D : va_G}
variable {ad : Nat → Nat} {ca : Nat → ClassId} {n : Int} {wt : Nat → Int} {k : Int} {lb : Nat → Nat} {pl : Int} {up : Nat → Int} {on : Nat → Int} {bo : Nat → Int}
theorem dk_g0 (F : fx p m meth c s args cc nL RX0 A) (h : wh D (dw ad ca n wt k lb pl up on bo) (dt ca) A s H locs) (hdg : decode cc pc = .ok (.getfield 26, 3)) (kk : W p l e R s m args below meth c H locs cells slots Q (F0 m (pc + 3) ls (.int (zI n) :: rest))) : W p l e R s m args below meth c H locs cells slots Q (F0 m pc ls (.ref (ad 0) :: rest)) :=
  va_get (D := D) (ci := 0) (v := .int (zI n)) (C := RX0) (T := TX0) (N := 8) F.1 F.2.1 F.2.2.2.2.1 in_X0 F.2.2.2.1 h.1 h.2.1 0 rfl rfl 0 (by decide) (F.2.2.2.2.1 _ q29) (fun _ h9 => h9) rfl hdg kk
theorem dk_p0 (F : fx p m meth c s args cc nL RX0 A) (h : wh D (dw ad ca n wt k lb pl up on bo) (dt ca) A s H locs) {x : Int} (hdg : decode cc pc = .ok (.putfield 26, 3)) (kk : ∀ (H1 : Heap) (locs1 : List Loc), wh D (dw ad ca x wt k lb pl up on bo) (dt ca) A s H1 locs1 → W p l e R s m args below meth c H1 locs1 cells slots Q (F0 m (pc + 3) ls rest)) : W p l e R s m args below meth c H locs cells slots Q (F0 m pc ls (.int (zI x) :: .ref (ad 0) :: rest)) :=
  va_put (D := D) (ci := 0) (v := .int (zI x)) (ty := .int) (C := RX0) (T := TX0) (N := 8) F.1 F.2.1 F.2.2.2.2.1 in_X0 tyX0 tyX0_ok nmX0 F.2.2.2.1 h.1 h.2.1 h.2.2.1 h.2.2.2 0 rfl rfl 0 (by decide) (F.2.2.2.2.1 _ q29) (fun _ h9 => h9) rfl (by decide +kernel) rfl rfl (Nat.le_of_ble_eq_true rfl) hdg (fun H1 locs1 hP hD hS => kk H1 locs1 ⟨h.1, hP, hD, hS⟩)
theorem dk_g1 (F : fx p m meth c s args cc nL RX0 A) (h : wh D (dw ad ca n wt k lb pl up on bo) (dt ca) A s H locs) (hdg : decode cc pc = .ok (.getfield 7, 3)) (kk : W p l e R s m args below meth c H locs cells slots Q (F0 m (pc + 3) ls (.ref (ad 1) :: rest))) : W p l e R s m args below meth c H locs cells slots Q (F0 m pc ls (.ref (ad 0) :: rest)) :=
  va_get (D := D) (ci := 0) (v := .ref (ad 1)) (C := RX0) (T := TX0) (N := 8) F.1 F.2.1 F.2.2.2.2.1 in_X0 F.2.2.2.1 h.1 h.2.1 0 rfl rfl 1 (by decide) (F.2.2.2.2.1 _ q30) (fun _ h9 => h9) rfl hdg kk
theorem dk_g2 (F : fx p m meth c s args cc nL RX0 A) (h : wh D (dw ad ca n wt k lb pl up on bo) (dt ca) A s H locs) (hdg : decode cc pc = .ok (.getfield 37, 3)) (kk : W p l e R s m args below meth c H locs cells slots Q (F0 m (pc + 3) ls (.int (zI k) :: rest))) : W p l e R s m args below meth c H locs cells slots Q (F0 m pc ls (.ref (ad 0) :: rest)) :=
  va_get (D := D) (ci := 0) (v := .int (zI k)) (C := RX0) (T := TX0) (N := 8) F.1 F.2.1 F.2.2.2.2.1 in_X0 F.2.2.2.1 h.1 h.2.1 0 rfl rfl 2 (by decide) (F.2.2.2.2.1 _ q31) (fun _ h9 => h9) rfl hdg kk
theorem dk_p2 (F : fx p m meth c s args cc nL RX0 A) (h : wh D (dw ad ca n wt k lb pl up on bo) (dt ca) A s H locs) {x : Int} (hdg : decode cc pc = .ok (.putfield 37, 3)) (kk : ∀ (H1 : Heap) (locs1 : List Loc), wh D (dw ad ca n wt x lb pl up on bo) (dt ca) A s H1 locs1 → W p l e R s m args below meth c H1 locs1 cells slots Q (F0 m (pc + 3) ls rest)) : W p l e R s m args below meth c H locs cells slots Q (F0 m pc ls (.int (zI x) :: .ref (ad 0) :: rest)) :=
  va_put (D := D) (ci := 0) (v := .int (zI x)) (ty := .int) (C := RX0) (T := TX0) (N := 8) F.1 F.2.1 F.2.2.2.2.1 in_X0 tyX0 tyX0_ok nmX0 F.2.2.2.1 h.1 h.2.1 h.2.2.1 h.2.2.2 0 rfl rfl 2 (by decide) (F.2.2.2.2.1 _ q31) (fun _ h9 => h9) rfl (by decide +kernel) rfl rfl (Nat.le_of_ble_eq_true rfl) hdg (fun H1 locs1 hP hD hS => kk H1 locs1 ⟨h.1, hP, hD, hS⟩)
theorem dk_g3 (F : fx p m meth c s args cc nL RX0 A) (h : wh D (dw ad ca n wt k lb pl up on bo) (dt ca) A s H locs) (hdg : decode cc pc = .ok (.getfield 13, 3)) (kk : W p l e R s m args below meth c H locs cells slots Q (F0 m (pc + 3) ls (.ref (ad 2) :: rest))) : W p l e R s m args below meth c H locs cells slots Q (F0 m pc ls (.ref (ad 0) :: rest)) :=
  va_get (D := D) (ci := 0) (v := .ref (ad 2)) (C := RX0) (T := TX0) (N := 8) F.1 F.2.1 F.2.2.2.2.1 in_X0 F.2.2.2.1 h.1 h.2.1 0 rfl rfl 3 (by decide) (F.2.2.2.2.1 _ q32) (fun _ h9 => h9) rfl hdg kk
theorem dk_g4 (F : fx p m meth c s args cc nL RX0 A) (h : wh D (dw ad ca n wt k lb pl up on bo) (dt ca) A s H locs) (hdg : decode cc pc = .ok (.getfield 40, 3)) (kk : W p l e R s m args below meth c H locs cells slots Q (F0 m (pc + 3) ls (.int (zI pl) :: rest))) : W p l e R s m args below meth c H locs cells slots Q (F0 m pc ls (.ref (ad 0) :: rest)) :=
  va_get (D := D) (ci := 0) (v := .int (zI pl)) (C := RX0) (T := TX0) (N := 8) F.1 F.2.1 F.2.2.2.2.1 in_X0 F.2.2.2.1 h.1 h.2.1 0 rfl rfl 4 (by decide) (F.2.2.2.2.1 _ q33) (fun _ h9 => h9) rfl hdg kk
theorem dk_p4_0 (F : fx p m meth c s args cc nL RX0 A) (h : wh D (dw ad ca n wt k lb pl up on bo) (dt ca) A s H locs) (hdg : decode cc pc = .ok (.putfield 40, 3)) (kk : ∀ (H1 : Heap) (locs1 : List Loc), wh D (dw ad ca n wt k lb 0 up on bo) (dt ca) A s H1 locs1 → W p l e R s m args below meth c H1 locs1 cells slots Q (F0 m (pc + 3) ls rest)) : W p l e R s m args below meth c H locs cells slots Q (F0 m pc ls (.int (zI 0) :: .ref (ad 0) :: rest)) :=
  va_put (D := D) (ci := 0) (v := .int (zI 0)) (ty := .boolean) (C := RX0) (T := TX0) (N := 8) F.1 F.2.1 F.2.2.2.2.1 in_X0 tyX0 tyX0_ok nmX0 F.2.2.2.1 h.1 h.2.1 h.2.2.1 h.2.2.2 0 rfl rfl 4 (by decide) (F.2.2.2.2.1 _ q33) (fun _ h9 => h9) rfl (by decide +kernel) (by decide +kernel) (by decide +kernel) (Nat.le_of_ble_eq_true rfl) hdg (fun H1 locs1 hP hD hS => kk H1 locs1 ⟨h.1, hP, hD, hS⟩)
theorem dk_p4_1 (F : fx p m meth c s args cc nL RX0 A) (h : wh D (dw ad ca n wt k lb pl up on bo) (dt ca) A s H locs) (hdg : decode cc pc = .ok (.putfield 40, 3)) (kk : ∀ (H1 : Heap) (locs1 : List Loc), wh D (dw ad ca n wt k lb 1 up on bo) (dt ca) A s H1 locs1 → W p l e R s m args below meth c H1 locs1 cells slots Q (F0 m (pc + 3) ls rest)) : W p l e R s m args below meth c H locs cells slots Q (F0 m pc ls (.int (zI 1) :: .ref (ad 0) :: rest)) :=
  va_put (D := D) (ci := 0) (v := .int (zI 1)) (ty := .boolean) (C := RX0) (T := TX0) (N := 8) F.1 F.2.1 F.2.2.2.2.1 in_X0 tyX0 tyX0_ok nmX0 F.2.2.2.1 h.1 h.2.1 h.2.2.1 h.2.2.2 0 rfl rfl 4 (by decide) (F.2.2.2.2.1 _ q33) (fun _ h9 => h9) rfl (by decide +kernel) (by decide +kernel) (by decide +kernel) (Nat.le_of_ble_eq_true rfl) hdg (fun H1 locs1 hP hD hS => kk H1 locs1 ⟨h.1, hP, hD, hS⟩)
theorem dk_g5 (F : fx p m meth c s args cc nL RX0 A) (h : wh D (dw ad ca n wt k lb pl up on bo) (dt ca) A s H locs) (hdg : decode cc pc = .ok (.getfield 16, 3)) (kk : W p l e R s m args below meth c H locs cells slots Q (F0 m (pc + 3) ls (.ref (ad 3) :: rest))) : W p l e R s m args below meth c H locs cells slots Q (F0 m pc ls (.ref (ad 0) :: rest)) :=
  va_get (D := D) (ci := 0) (v := .ref (ad 3)) (C := RX0) (T := TX0) (N := 8) F.1 F.2.1 F.2.2.2.2.1 in_X0 F.2.2.2.1 h.1 h.2.1 0 rfl rfl 5 (by decide) (F.2.2.2.2.1 _ q34) (fun _ h9 => h9) rfl hdg kk
theorem dk_g6 (F : fx p m meth c s args cc nL RX0 A) (h : wh D (dw ad ca n wt k lb pl up on bo) (dt ca) A s H locs) (hdg : decode cc pc = .ok (.getfield 20, 3)) (kk : W p l e R s m args below meth c H locs cells slots Q (F0 m (pc + 3) ls (.ref (ad 4) :: rest))) : W p l e R s m args below meth c H locs cells slots Q (F0 m pc ls (.ref (ad 0) :: rest)) :=
  va_get (D := D) (ci := 0) (v := .ref (ad 4)) (C := RX0) (T := TX0) (N := 8) F.1 F.2.1 F.2.2.2.2.1 in_X0 F.2.2.2.1 h.1 h.2.1 0 rfl rfl 6 (by decide) (F.2.2.2.2.1 _ q35) (fun _ h9 => h9) rfl hdg kk
theorem dk_g7 (F : fx p m meth c s args cc nL RX0 A) (h : wh D (dw ad ca n wt k lb pl up on bo) (dt ca) A s H locs) (hdg : decode cc pc = .ok (.getfield 23, 3)) (kk : W p l e R s m args below meth c H locs cells slots Q (F0 m (pc + 3) ls (.ref (ad 5) :: rest))) : W p l e R s m args below meth c H locs cells slots Q (F0 m pc ls (.ref (ad 0) :: rest)) :=
  va_get (D := D) (ci := 0) (v := .ref (ad 5)) (C := RX0) (T := TX0) (N := 8) F.1 F.2.1 F.2.2.2.2.1 in_X0 F.2.2.2.1 h.1 h.2.1 0 rfl rfl 7 (by decide) (F.2.2.2.2.1 _ q36) (fun _ h9 => h9) rfl hdg kk
theorem dk_l1 (F : fx p m meth c s args cc nL RX0 A) (h : wh D (dw ad ca n wt k lb pl up on bo) (dt ca) A s H locs) {a : Int} (j : Nat) (hdg : decode cc pc = .ok (.baload, 1)) (kk : W p l e R s m args below meth c H locs cells slots Q (F0 m (pc + 1) ls (.int (zI (wt j)) :: rest))) (hj : j < 24 := by omega) (ha : a = (j : Int) := by omega) : W p l e R s m args below meth c H locs cells slots Q (F0 m pc ls (.int (zI a) :: .ref (ad 1) :: rest)) := by
  subst ha
  refine va_bald (n := 24) (f := (fun j => zI (wt j))) F.1 F.2.1 h.1 h.2.1 1 0 rfl rfl (zI_in hj (by decide)) hdg ?_
  rw [zI_clamp (j := j) (by omega)]
  exact kk
theorem dk_s1 (F : fx p m meth c s args cc nL RX0 A) (h : wh D (dw ad ca n wt k lb pl up on bo) (dt ca) A s H locs) {a : Int} (j : Nat) {x : Int} (hdg : decode cc pc = .ok (.bastore, 1)) (kk : ∀ (H1 : Heap) (locs1 : List Loc), wh D (dw ad ca n (up1 wt j x) k lb pl up on bo) (dt ca) A s H1 locs1 → W p l e R s m args below meth c H1 locs1 cells slots Q (F0 m (pc + 1) ls rest)) (hj : j < 24 := by omega) (ha : a = (j : Int) := by omega) (hx : -128 ≤ x ∧ x < 128 := by omega) : W p l e R s m args below meth c H locs cells slots Q (F0 m pc ls (.int (zI x) :: .int (zI a) :: .ref (ad 1) :: rest)) := by
  subst ha
  have e1 : upd (fun j => zI (wt j)) (zI (j : Int)).toNatClampNeg (vp_nar .byte (zI x)) = (fun i => zI (up1 wt j x i)) := by
    rw [nar_b hx]; exact (up1_z (f := wt) (k := j) (x := x) (by omega))
  refine va_bast (n := 24) (f := (fun j => zI (wt j))) F.1 F.2.1 h.1 h.2.1 h.2.2.1 h.2.2.2 1 0 rfl rfl (zI_in hj (by decide)) hdg (fun H1 locs1 hP hD hS => ?_)
  rw [e1] at hP hD
  exact kk H1 locs1 ⟨h.1, hP, hD, hS⟩
theorem dk_l2 (F : fx p m meth c s args cc nL RX0 A) (h : wh D (dw ad ca n wt k lb pl up on bo) (dt ca) A s H locs) {a : Int} (j : Nat) (hdg : decode cc pc = .ok (.baload, 1)) (kk : W p l e R s m args below meth c H locs cells slots Q (F0 m (pc + 1) ls (.int (zI (((lb j : Nat) : Int))) :: rest))) (hj : j < 4 := by omega) (ha : a = (j : Int) := by omega) : W p l e R s m args below meth c H locs cells slots Q (F0 m pc ls (.int (zI a) :: .ref (ad 2) :: rest)) := by
  subst ha
  refine va_bald (n := 4) (f := (fun j => zI ((lb j : Nat) : Int))) F.1 F.2.1 h.1 h.2.1 2 1 rfl rfl (zI_in hj (by decide)) hdg ?_
  rw [zI_clamp (j := j) (by omega)]
  exact kk
theorem dk_s2 (F : fx p m meth c s args cc nL RX0 A) (h : wh D (dw ad ca n wt k lb pl up on bo) (dt ca) A s H locs) {a : Int} {b : Int} (j : Nat) (x : Nat) (hdg : decode cc pc = .ok (.bastore, 1)) (kk : ∀ (H1 : Heap) (locs1 : List Loc), wh D (dw ad ca n wt k (up1 lb j x) pl up on bo) (dt ca) A s H1 locs1 → W p l e R s m args below meth c H1 locs1 cells slots Q (F0 m (pc + 1) ls rest)) (hj : j < 4 := by omega) (ha : a = (j : Int) := by omega) (hb : b = (x : Int) := by omega) (hx : -128 ≤ ((x : Nat) : Int) ∧ ((x : Nat) : Int) < 128 := by omega) : W p l e R s m args below meth c H locs cells slots Q (F0 m pc ls (.int (zI b) :: .int (zI a) :: .ref (ad 2) :: rest)) := by
  subst ha
  subst hb
  have e1 : upd (fun j => zI ((lb j : Nat) : Int)) (zI (j : Int)).toNatClampNeg (vp_nar .byte (zI ((x : Nat) : Int))) = (fun i => zI (((up1 lb j x) i : Nat) : Int)) := by
    rw [nar_b hx]; exact (up1_z (f := fun j => ((lb j : Nat) : Int)) (k := j) (x := (x : Int)) (by omega)).trans (by rw [← up1_c])
  refine va_bast (n := 4) (f := (fun j => zI ((lb j : Nat) : Int))) F.1 F.2.1 h.1 h.2.1 h.2.2.1 h.2.2.2 2 1 rfl rfl (zI_in hj (by decide)) hdg (fun H1 locs1 hP hD hS => ?_)
  rw [e1] at hP hD
  exact kk H1 locs1 ⟨h.1, hP, hD, hS⟩
theorem dk_l3 (F : fx p m meth c s args cc nL RX0 A) (h : wh D (dw ad ca n wt k lb pl up on bo) (dt ca) A s H locs) {a : Int} (j : Nat) (hdg : decode cc pc = .ok (.iaload, 1)) (kk : W p l e R s m args below meth c H locs cells slots Q (F0 m (pc + 1) ls (.int (zI (up j)) :: rest))) (hj : j < 54 := by omega) (ha : a = (j : Int) := by omega) : W p l e R s m args below meth c H locs cells slots Q (F0 m pc ls (.int (zI a) :: .ref (ad 3) :: rest)) := by
  subst ha
  refine va_iald (n := 54) (f := (fun j => zI (up j))) F.1 F.2.1 h.1 h.2.1 3 2 rfl rfl (zI_in hj (by decide)) hdg ?_
  rw [zI_clamp (j := j) (by omega)]
  exact kk
theorem dk_s3 (F : fx p m meth c s args cc nL RX0 A) (h : wh D (dw ad ca n wt k lb pl up on bo) (dt ca) A s H locs) {a : Int} (j : Nat) {x : Int} (hdg : decode cc pc = .ok (.iastore, 1)) (kk : ∀ (H1 : Heap) (locs1 : List Loc), wh D (dw ad ca n wt k lb pl (up1 up j x) on bo) (dt ca) A s H1 locs1 → W p l e R s m args below meth c H1 locs1 cells slots Q (F0 m (pc + 1) ls rest)) (hj : j < 54 := by omega) (ha : a = (j : Int) := by omega) : W p l e R s m args below meth c H locs cells slots Q (F0 m pc ls (.int (zI x) :: .int (zI a) :: .ref (ad 3) :: rest)) := by
  subst ha
  have e1 : upd (fun j => zI (up j)) (zI (j : Int)).toNatClampNeg ((zI x)) = (fun i => zI (up1 up j x i)) := by
    exact (up1_z (f := up) (k := j) (x := x) (by omega))
  refine va_iast (n := 54) (f := (fun j => zI (up j))) F.1 F.2.1 h.1 h.2.1 h.2.2.1 h.2.2.2 3 2 rfl rfl (zI_in hj (by decide)) hdg (fun H1 locs1 hP hD hS => ?_)
  rw [e1] at hP hD
  exact kk H1 locs1 ⟨h.1, hP, hD, hS⟩
theorem dk_l4 (F : fx p m meth c s args cc nL RX0 A) (h : wh D (dw ad ca n wt k lb pl up on bo) (dt ca) A s H locs) {a : Int} (j : Nat) (hdg : decode cc pc = .ok (.iaload, 1)) (kk : W p l e R s m args below meth c H locs cells slots Q (F0 m (pc + 1) ls (.int (zI (on j)) :: rest))) (hj : j < 54 := by omega) (ha : a = (j : Int) := by omega) : W p l e R s m args below meth c H locs cells slots Q (F0 m pc ls (.int (zI a) :: .ref (ad 4) :: rest)) := by
  subst ha
  refine va_iald (n := 54) (f := (fun j => zI (on j))) F.1 F.2.1 h.1 h.2.1 4 3 rfl rfl (zI_in hj (by decide)) hdg ?_
  rw [zI_clamp (j := j) (by omega)]
  exact kk
theorem dk_s4 (F : fx p m meth c s args cc nL RX0 A) (h : wh D (dw ad ca n wt k lb pl up on bo) (dt ca) A s H locs) {a : Int} (j : Nat) {x : Int} (hdg : decode cc pc = .ok (.iastore, 1)) (kk : ∀ (H1 : Heap) (locs1 : List Loc), wh D (dw ad ca n wt k lb pl up (up1 on j x) bo) (dt ca) A s H1 locs1 → W p l e R s m args below meth c H1 locs1 cells slots Q (F0 m (pc + 1) ls rest)) (hj : j < 54 := by omega) (ha : a = (j : Int) := by omega) : W p l e R s m args below meth c H locs cells slots Q (F0 m pc ls (.int (zI x) :: .int (zI a) :: .ref (ad 4) :: rest)) := by
  subst ha
  have e1 : upd (fun j => zI (on j)) (zI (j : Int)).toNatClampNeg ((zI x)) = (fun i => zI (up1 on j x i)) := by
    exact (up1_z (f := on) (k := j) (x := x) (by omega))
  refine va_iast (n := 54) (f := (fun j => zI (on j))) F.1 F.2.1 h.1 h.2.1 h.2.2.1 h.2.2.2 4 3 rfl rfl (zI_in hj (by decide)) hdg (fun H1 locs1 hP hD hS => ?_)
  rw [e1] at hP hD
  exact kk H1 locs1 ⟨h.1, hP, hD, hS⟩
theorem dk_l5 (F : fx p m meth c s args cc nL RX0 A) (h : wh D (dw ad ca n wt k lb pl up on bo) (dt ca) A s H locs) {a : Int} (j : Nat) (hdg : decode cc pc = .ok (.iaload, 1)) (kk : W p l e R s m args below meth c H locs cells slots Q (F0 m (pc + 1) ls (.int (zI (bo j)) :: rest))) (hj : j < 54 := by omega) (ha : a = (j : Int) := by omega) : W p l e R s m args below meth c H locs cells slots Q (F0 m pc ls (.int (zI a) :: .ref (ad 5) :: rest)) := by
  subst ha
  refine va_iald (n := 54) (f := (fun j => zI (bo j))) F.1 F.2.1 h.1 h.2.1 5 4 rfl rfl (zI_in hj (by decide)) hdg ?_
  rw [zI_clamp (j := j) (by omega)]
  exact kk
theorem dk_s5 (F : fx p m meth c s args cc nL RX0 A) (h : wh D (dw ad ca n wt k lb pl up on bo) (dt ca) A s H locs) {a : Int} (j : Nat) {x : Int} (hdg : decode cc pc = .ok (.iastore, 1)) (kk : ∀ (H1 : Heap) (locs1 : List Loc), wh D (dw ad ca n wt k lb pl up on (up1 bo j x)) (dt ca) A s H1 locs1 → W p l e R s m args below meth c H1 locs1 cells slots Q (F0 m (pc + 1) ls rest)) (hj : j < 54 := by omega) (ha : a = (j : Int) := by omega) : W p l e R s m args below meth c H locs cells slots Q (F0 m pc ls (.int (zI x) :: .int (zI a) :: .ref (ad 5) :: rest)) := by
  subst ha
  have e1 : upd (fun j => zI (bo j)) (zI (j : Int)).toNatClampNeg ((zI x)) = (fun i => zI (up1 bo j x i)) := by
    exact (up1_z (f := bo) (k := j) (x := x) (by omega))
  refine va_iast (n := 54) (f := (fun j => zI (bo j))) F.1 F.2.1 h.1 h.2.1 h.2.2.1 h.2.2.2 5 4 rfl rfl (zI_in hj (by decide)) hdg (fun H1 locs1 hP hD hS => ?_)
  rw [e1] at hP hD
  exact kk H1 locs1 ⟨h.1, hP, hD, hS⟩
end Wdk
section Wmo
def mw (ad : Nat → Nat) (ca : Nat → ClassId) (n : Int) (wt : Nat → Int) (k : Int) (lb : Nat → Nat) (pa : Nat → Nat) (rd : Nat → Nat) : va_W := [(ad 0, .inr (1, [.int (zI n), .ref (ad 1), .int (zI k), .ref (ad 2), .ref (ad 3), .ref (ad 4)])), (ad 1, .inl (ca 1, 24, .inl (fun j => zI (wt j)))), (ad 2, .inl (ca 2, 4, .inl (fun j => zI ((lb j : Nat) : Int)))), (ad 3, .inl (ca 3, 6, .inl (fun j => zI ((pa j : Nat) : Int)))), (ad 4, .inl (ca 4, 6, .inl (fun j => zI ((rd j : Nat) : Int))))]
def mt (ca : Nat → ClassId) : List (ClassId × FieldType) := [(ca 1, .int), (ca 2, .int), (ca 3, .int), (ca 4, .int)]
variable {p : Program} {l : Launch} {e : Env} {R : Room} {s : State} {m : MethodId} {args : Array Value} {below : List Frame} {meth : Method} {c : Code} {H : Heap} {locs : List Loc} {cells slots : Nat} {Q : State → Prop}
variable {cc : ByteArray} {pc : Nat} {ls : Array Slot} {rest : List Value} {nL : Nat} {own : String} {A : Nat → Prop} {vs : List (Option Value)} {D : va_G}
variable {ad : Nat → Nat} {ca : Nat → ClassId} {n : Int} {wt : Nat → Int} {k : Int} {lb : Nat → Nat} {pa : Nat → Nat} {rd : Nat → Nat}
theorem mo_g0 (F : fx p m meth c s args cc nL RX1 A) (h : wh D (mw ad ca n wt k lb pa rd) (mt ca) A s H locs) (hdg : decode cc pc = .ok (.getfield 22, 3)) (kk : W p l e R s m args below meth c H locs cells slots Q (F0 m (pc + 3) ls (.int (zI n) :: rest))) : W p l e R s m args below meth c H locs cells slots Q (F0 m pc ls (.ref (ad 0) :: rest)) :=
  va_get (D := D) (ci := 1) (v := .int (zI n)) (C := RX1) (T := TX1) (N := 6) F.1 F.2.1 F.2.2.2.2.1 in_X1 F.2.2.2.1 h.1 h.2.1 0 rfl rfl 0 (by decide) (F.2.2.2.2.1 _ q173) (fun _ h9 => h9) rfl hdg kk
theorem mo_p0 (F : fx p m meth c s args cc nL RX1 A) (h : wh D (mw ad ca n wt k lb pa rd) (mt ca) A s H locs) {x : Int} (hdg : decode cc pc = .ok (.putfield 22, 3)) (kk : ∀ (H1 : Heap) (locs1 : List Loc), wh D (mw ad ca x wt k lb pa rd) (mt ca) A s H1 locs1 → W p l e R s m args below meth c H1 locs1 cells slots Q (F0 m (pc + 3) ls rest)) : W p l e R s m args below meth c H locs cells slots Q (F0 m pc ls (.int (zI x) :: .ref (ad 0) :: rest)) :=
  va_put (D := D) (ci := 1) (v := .int (zI x)) (ty := .int) (C := RX1) (T := TX1) (N := 6) F.1 F.2.1 F.2.2.2.2.1 in_X1 tyX1 tyX1_ok nmX1 F.2.2.2.1 h.1 h.2.1 h.2.2.1 h.2.2.2 0 rfl rfl 0 (by decide) (F.2.2.2.2.1 _ q173) (fun _ h9 => h9) rfl (by decide +kernel) rfl rfl (Nat.le_of_ble_eq_true rfl) hdg (fun H1 locs1 hP hD hS => kk H1 locs1 ⟨h.1, hP, hD, hS⟩)
theorem mo_g1 (F : fx p m meth c s args cc nL RX1 A) (h : wh D (mw ad ca n wt k lb pa rd) (mt ca) A s H locs) (hdg : decode cc pc = .ok (.getfield 7, 3)) (kk : W p l e R s m args below meth c H locs cells slots Q (F0 m (pc + 3) ls (.ref (ad 1) :: rest))) : W p l e R s m args below meth c H locs cells slots Q (F0 m pc ls (.ref (ad 0) :: rest)) :=
  va_get (D := D) (ci := 1) (v := .ref (ad 1)) (C := RX1) (T := TX1) (N := 6) F.1 F.2.1 F.2.2.2.2.1 in_X1 F.2.2.2.1 h.1 h.2.1 0 rfl rfl 1 (by decide) (F.2.2.2.2.1 _ q174) (fun _ h9 => h9) rfl hdg kk
theorem mo_g2 (F : fx p m meth c s args cc nL RX1 A) (h : wh D (mw ad ca n wt k lb pa rd) (mt ca) A s H locs) (hdg : decode cc pc = .ok (.getfield 33, 3)) (kk : W p l e R s m args below meth c H locs cells slots Q (F0 m (pc + 3) ls (.int (zI k) :: rest))) : W p l e R s m args below meth c H locs cells slots Q (F0 m pc ls (.ref (ad 0) :: rest)) :=
  va_get (D := D) (ci := 1) (v := .int (zI k)) (C := RX1) (T := TX1) (N := 6) F.1 F.2.1 F.2.2.2.2.1 in_X1 F.2.2.2.1 h.1 h.2.1 0 rfl rfl 2 (by decide) (F.2.2.2.2.1 _ q175) (fun _ h9 => h9) rfl hdg kk
theorem mo_p2 (F : fx p m meth c s args cc nL RX1 A) (h : wh D (mw ad ca n wt k lb pa rd) (mt ca) A s H locs) {x : Int} (hdg : decode cc pc = .ok (.putfield 33, 3)) (kk : ∀ (H1 : Heap) (locs1 : List Loc), wh D (mw ad ca n wt x lb pa rd) (mt ca) A s H1 locs1 → W p l e R s m args below meth c H1 locs1 cells slots Q (F0 m (pc + 3) ls rest)) : W p l e R s m args below meth c H locs cells slots Q (F0 m pc ls (.int (zI x) :: .ref (ad 0) :: rest)) :=
  va_put (D := D) (ci := 1) (v := .int (zI x)) (ty := .int) (C := RX1) (T := TX1) (N := 6) F.1 F.2.1 F.2.2.2.2.1 in_X1 tyX1 tyX1_ok nmX1 F.2.2.2.1 h.1 h.2.1 h.2.2.1 h.2.2.2 0 rfl rfl 2 (by decide) (F.2.2.2.2.1 _ q175) (fun _ h9 => h9) rfl (by decide +kernel) rfl rfl (Nat.le_of_ble_eq_true rfl) hdg (fun H1 locs1 hP hD hS => kk H1 locs1 ⟨h.1, hP, hD, hS⟩)
theorem mo_g3 (F : fx p m meth c s args cc nL RX1 A) (h : wh D (mw ad ca n wt k lb pa rd) (mt ca) A s H locs) (hdg : decode cc pc = .ok (.getfield 13, 3)) (kk : W p l e R s m args below meth c H locs cells slots Q (F0 m (pc + 3) ls (.ref (ad 2) :: rest))) : W p l e R s m args below meth c H locs cells slots Q (F0 m pc ls (.ref (ad 0) :: rest)) :=
  va_get (D := D) (ci := 1) (v := .ref (ad 2)) (C := RX1) (T := TX1) (N := 6) F.1 F.2.1 F.2.2.2.2.1 in_X1 F.2.2.2.1 h.1 h.2.1 0 rfl rfl 3 (by decide) (F.2.2.2.2.1 _ q176) (fun _ h9 => h9) rfl hdg kk
theorem mo_g4 (F : fx p m meth c s args cc nL RX1 A) (h : wh D (mw ad ca n wt k lb pa rd) (mt ca) A s H locs) (hdg : decode cc pc = .ok (.getfield 16, 3)) (kk : W p l e R s m args below meth c H locs cells slots Q (F0 m (pc + 3) ls (.ref (ad 3) :: rest))) : W p l e R s m args below meth c H locs cells slots Q (F0 m pc ls (.ref (ad 0) :: rest)) :=
  va_get (D := D) (ci := 1) (v := .ref (ad 3)) (C := RX1) (T := TX1) (N := 6) F.1 F.2.1 F.2.2.2.2.1 in_X1 F.2.2.2.1 h.1 h.2.1 0 rfl rfl 4 (by decide) (F.2.2.2.2.1 _ q177) (fun _ h9 => h9) rfl hdg kk
theorem mo_g5 (F : fx p m meth c s args cc nL RX1 A) (h : wh D (mw ad ca n wt k lb pa rd) (mt ca) A s H locs) (hdg : decode cc pc = .ok (.getfield 19, 3)) (kk : W p l e R s m args below meth c H locs cells slots Q (F0 m (pc + 3) ls (.ref (ad 4) :: rest))) : W p l e R s m args below meth c H locs cells slots Q (F0 m pc ls (.ref (ad 0) :: rest)) :=
  va_get (D := D) (ci := 1) (v := .ref (ad 4)) (C := RX1) (T := TX1) (N := 6) F.1 F.2.1 F.2.2.2.2.1 in_X1 F.2.2.2.1 h.1 h.2.1 0 rfl rfl 5 (by decide) (F.2.2.2.2.1 _ q178) (fun _ h9 => h9) rfl hdg kk
theorem mo_l1 (F : fx p m meth c s args cc nL RX1 A) (h : wh D (mw ad ca n wt k lb pa rd) (mt ca) A s H locs) {a : Int} (j : Nat) (hdg : decode cc pc = .ok (.iaload, 1)) (kk : W p l e R s m args below meth c H locs cells slots Q (F0 m (pc + 1) ls (.int (zI (wt j)) :: rest))) (hj : j < 24 := by omega) (ha : a = (j : Int) := by omega) : W p l e R s m args below meth c H locs cells slots Q (F0 m pc ls (.int (zI a) :: .ref (ad 1) :: rest)) := by
  subst ha
  refine va_iald (n := 24) (f := (fun j => zI (wt j))) F.1 F.2.1 h.1 h.2.1 1 0 rfl rfl (zI_in hj (by decide)) hdg ?_
  rw [zI_clamp (j := j) (by omega)]
  exact kk
theorem mo_s1 (F : fx p m meth c s args cc nL RX1 A) (h : wh D (mw ad ca n wt k lb pa rd) (mt ca) A s H locs) {a : Int} (j : Nat) {x : Int} (hdg : decode cc pc = .ok (.iastore, 1)) (kk : ∀ (H1 : Heap) (locs1 : List Loc), wh D (mw ad ca n (up1 wt j x) k lb pa rd) (mt ca) A s H1 locs1 → W p l e R s m args below meth c H1 locs1 cells slots Q (F0 m (pc + 1) ls rest)) (hj : j < 24 := by omega) (ha : a = (j : Int) := by omega) : W p l e R s m args below meth c H locs cells slots Q (F0 m pc ls (.int (zI x) :: .int (zI a) :: .ref (ad 1) :: rest)) := by
  subst ha
  have e1 : upd (fun j => zI (wt j)) (zI (j : Int)).toNatClampNeg ((zI x)) = (fun i => zI (up1 wt j x i)) := by
    exact (up1_z (f := wt) (k := j) (x := x) (by omega))
  refine va_iast (n := 24) (f := (fun j => zI (wt j))) F.1 F.2.1 h.1 h.2.1 h.2.2.1 h.2.2.2 1 0 rfl rfl (zI_in hj (by decide)) hdg (fun H1 locs1 hP hD hS => ?_)
  rw [e1] at hP hD
  exact kk H1 locs1 ⟨h.1, hP, hD, hS⟩
theorem mo_l2 (F : fx p m meth c s args cc nL RX1 A) (h : wh D (mw ad ca n wt k lb pa rd) (mt ca) A s H locs) {a : Int} (j : Nat) (hdg : decode cc pc = .ok (.iaload, 1)) (kk : W p l e R s m args below meth c H locs cells slots Q (F0 m (pc + 1) ls (.int (zI (((lb j : Nat) : Int))) :: rest))) (hj : j < 4 := by omega) (ha : a = (j : Int) := by omega) : W p l e R s m args below meth c H locs cells slots Q (F0 m pc ls (.int (zI a) :: .ref (ad 2) :: rest)) := by
  subst ha
  refine va_iald (n := 4) (f := (fun j => zI ((lb j : Nat) : Int))) F.1 F.2.1 h.1 h.2.1 2 1 rfl rfl (zI_in hj (by decide)) hdg ?_
  rw [zI_clamp (j := j) (by omega)]
  exact kk
theorem mo_s2 (F : fx p m meth c s args cc nL RX1 A) (h : wh D (mw ad ca n wt k lb pa rd) (mt ca) A s H locs) {a : Int} {b : Int} (j : Nat) (x : Nat) (hdg : decode cc pc = .ok (.iastore, 1)) (kk : ∀ (H1 : Heap) (locs1 : List Loc), wh D (mw ad ca n wt k (up1 lb j x) pa rd) (mt ca) A s H1 locs1 → W p l e R s m args below meth c H1 locs1 cells slots Q (F0 m (pc + 1) ls rest)) (hj : j < 4 := by omega) (ha : a = (j : Int) := by omega) (hb : b = (x : Int) := by omega) : W p l e R s m args below meth c H locs cells slots Q (F0 m pc ls (.int (zI b) :: .int (zI a) :: .ref (ad 2) :: rest)) := by
  subst ha
  subst hb
  have e1 : upd (fun j => zI ((lb j : Nat) : Int)) (zI (j : Int)).toNatClampNeg ((zI ((x : Nat) : Int))) = (fun i => zI (((up1 lb j x) i : Nat) : Int)) := by
    exact (up1_z (f := fun j => ((lb j : Nat) : Int)) (k := j) (x := (x : Int)) (by omega)).trans (by rw [← up1_c])
  refine va_iast (n := 4) (f := (fun j => zI ((lb j : Nat) : Int))) F.1 F.2.1 h.1 h.2.1 h.2.2.1 h.2.2.2 2 1 rfl rfl (zI_in hj (by decide)) hdg (fun H1 locs1 hP hD hS => ?_)
  rw [e1] at hP hD
  exact kk H1 locs1 ⟨h.1, hP, hD, hS⟩
theorem mo_l3 (F : fx p m meth c s args cc nL RX1 A) (h : wh D (mw ad ca n wt k lb pa rd) (mt ca) A s H locs) {a : Int} (j : Nat) (hdg : decode cc pc = .ok (.iaload, 1)) (kk : W p l e R s m args below meth c H locs cells slots Q (F0 m (pc + 1) ls (.int (zI (((pa j : Nat) : Int))) :: rest))) (hj : j < 6 := by omega) (ha : a = (j : Int) := by omega) : W p l e R s m args below meth c H locs cells slots Q (F0 m pc ls (.int (zI a) :: .ref (ad 3) :: rest)) := by
  subst ha
  refine va_iald (n := 6) (f := (fun j => zI ((pa j : Nat) : Int))) F.1 F.2.1 h.1 h.2.1 3 2 rfl rfl (zI_in hj (by decide)) hdg ?_
  rw [zI_clamp (j := j) (by omega)]
  exact kk
theorem mo_s3 (F : fx p m meth c s args cc nL RX1 A) (h : wh D (mw ad ca n wt k lb pa rd) (mt ca) A s H locs) {a : Int} {b : Int} (j : Nat) (x : Nat) (hdg : decode cc pc = .ok (.iastore, 1)) (kk : ∀ (H1 : Heap) (locs1 : List Loc), wh D (mw ad ca n wt k lb (up1 pa j x) rd) (mt ca) A s H1 locs1 → W p l e R s m args below meth c H1 locs1 cells slots Q (F0 m (pc + 1) ls rest)) (hj : j < 6 := by omega) (ha : a = (j : Int) := by omega) (hb : b = (x : Int) := by omega) : W p l e R s m args below meth c H locs cells slots Q (F0 m pc ls (.int (zI b) :: .int (zI a) :: .ref (ad 3) :: rest)) := by
  subst ha
  subst hb
  have e1 : upd (fun j => zI ((pa j : Nat) : Int)) (zI (j : Int)).toNatClampNeg ((zI ((x : Nat) : Int))) = (fun i => zI (((up1 pa j x) i : Nat) : Int)) := by
    exact (up1_z (f := fun j => ((pa j : Nat) : Int)) (k := j) (x := (x : Int)) (by omega)).trans (by rw [← up1_c])
  refine va_iast (n := 6) (f := (fun j => zI ((pa j : Nat) : Int))) F.1 F.2.1 h.1 h.2.1 h.2.2.1 h.2.2.2 3 2 rfl rfl (zI_in hj (by decide)) hdg (fun H1 locs1 hP hD hS => ?_)
  rw [e1] at hP hD
  exact kk H1 locs1 ⟨h.1, hP, hD, hS⟩
theorem mo_l4 (F : fx p m meth c s args cc nL RX1 A) (h : wh D (mw ad ca n wt k lb pa rd) (mt ca) A s H locs) {a : Int} (j : Nat) (hdg : decode cc pc = .ok (.iaload, 1)) (kk : W p l e R s m args below meth c H locs cells slots Q (F0 m (pc + 1) ls (.int (zI (((rd j : Nat) : Int))) :: rest))) (hj : j < 6 := by omega) (ha : a = (j : Int) := by omega) : W p l e R s m args below meth c H locs cells slots Q (F0 m pc ls (.int (zI a) :: .ref (ad 4) :: rest)) := by
  subst ha
  refine va_iald (n := 6) (f := (fun j => zI ((rd j : Nat) : Int))) F.1 F.2.1 h.1 h.2.1 4 3 rfl rfl (zI_in hj (by decide)) hdg ?_
  rw [zI_clamp (j := j) (by omega)]
  exact kk
theorem mo_s4 (F : fx p m meth c s args cc nL RX1 A) (h : wh D (mw ad ca n wt k lb pa rd) (mt ca) A s H locs) {a : Int} {b : Int} (j : Nat) (x : Nat) (hdg : decode cc pc = .ok (.iastore, 1)) (kk : ∀ (H1 : Heap) (locs1 : List Loc), wh D (mw ad ca n wt k lb pa (up1 rd j x)) (mt ca) A s H1 locs1 → W p l e R s m args below meth c H1 locs1 cells slots Q (F0 m (pc + 1) ls rest)) (hj : j < 6 := by omega) (ha : a = (j : Int) := by omega) (hb : b = (x : Int) := by omega) : W p l e R s m args below meth c H locs cells slots Q (F0 m pc ls (.int (zI b) :: .int (zI a) :: .ref (ad 4) :: rest)) := by
  subst ha
  subst hb
  have e1 : upd (fun j => zI ((rd j : Nat) : Int)) (zI (j : Int)).toNatClampNeg ((zI ((x : Nat) : Int))) = (fun i => zI (((up1 rd j x) i : Nat) : Int)) := by
    exact (up1_z (f := fun j => ((rd j : Nat) : Int)) (k := j) (x := (x : Int)) (by omega)).trans (by rw [← up1_c])
  refine va_iast (n := 6) (f := (fun j => zI ((rd j : Nat) : Int))) F.1 F.2.1 h.1 h.2.1 h.2.2.1 h.2.2.2 4 3 rfl rfl (zI_in hj (by decide)) hdg (fun H1 locs1 hP hD hS => ?_)
  rw [e1] at hP hD
  exact kk H1 locs1 ⟨h.1, hP, hD, hS⟩
end Wmo
end
section
/-! THE PURE WORDS: what the methods answer, over integers -/
def bz (b : Bool) : Int := if b then 1 else 0
theorem bz_t {b : Bool} (h : b = true) : 1 = bz b := by rw [h]; rfl
theorem bz_f {b : Bool} (h : b = false) : 0 = bz b := by rw [h]; rfl
theorem bz_dt {P : Prop} [Decidable P] (h : P) : 1 = bz (decide P) := bz_t (decide_eq_true h)
theorem bz_df {P : Prop} [Decidable P] (h : ¬ P) : 0 = bz (decide P) := bz_f (decide_eq_false h)
theorem bz_01 (b : Bool) : bz b = 0 ∨ bz b = 1 := by cases b <;> simp [bz]
theorem bz_in (b : Bool) : -2147483648 ≤ bz b ∧ bz b < 2147483648 := by rcases bz_01 b with h | h <;> rw [h] <;> omega
theorem bz_e0 {b : Bool} (h : bz b = 0) : b = false := by cases b <;> simp_all [bz]
theorem bz_n0 {b : Bool} (h : ¬ bz b = 0) : b = true := by cases b <;> simp_all [bz]
theorem bz_d0 {P : Prop} [Decidable P] (h : bz (decide P) = 0) : ¬ P := of_decide_eq_false (bz_e0 h)
theorem bz_d1 {P : Prop} [Decidable P] (h : ¬ bz (decide P) = 0) : P := of_decide_eq_true (bz_n0 h)
/-- the mark at a place -/
def mk (lb : Nat → Nat) (s : Nat) : Nat := if s % 2 = 0 then 0 else lb (s / 2)
def ew (pl : Int) (wt : Nat → Int) : Nat → Int := if pl = 0 then wt else fun _ => 1
def ld (lb : Nat → Nat) (f t : Nat) : Bool := decide (t = f ∨ t = f + 1 ∨ (t = f + 2 ∧ t % 2 = 1 ∧ mk lb t ≠ mk lb f))
def fsm (wt : Nat → Int) (t : Nat) : Int := wt (4 * t) + wt (4 * t + 1) + wt (4 * t + 2) + wt (4 * t + 3)
def wrR (k : Nat) (x : Int) : Int := if 1 ≤ x ∧ x ≤ 3 then (if k < 4 then (k : Int) + 1 else -2) else -1
def wrK (k : Nat) (x : Int) : Nat := if (1 ≤ x ∧ x ≤ 3) ∧ k < 4 then k + 1 else k
def wrL (k : Nat) (lb : Nat → Nat) (x : Int) : Nat → Nat := if (1 ≤ x ∧ x ≤ 3) ∧ k < 4 then up1 lb k x.toNat else lb
def rbR (k : Nat) (lb : Nat → Nat) : Int := if k = 0 then -1 else ((lb (k - 1) : Nat) : Int)
abbrev okd (x : Int) : Prop := (0 ≤ x ∧ x ≤ 8888) ∧ x % 10 ≠ 9 ∧ x / 10 % 10 ≠ 9 ∧ x / 100 % 10 ≠ 9
def frR (n : Nat) (x : Int) : Int := if okd x then (if n < 6 then (n : Int) else -2) else -1
def frN (n : Nat) (x : Int) : Nat := if okd x ∧ n < 6 then n + 1 else n
def frW (n : Nat) (wt : Nat → Int) (x : Int) : Nat → Int := if okd x ∧ n < 6 then up1 (up1 (up1 (up1 wt (4 * n) (x % 10)) (4 * n + 1) (x / 10 % 10)) (4 * n + 2) (x / 100 % 10)) (4 * n + 3) (x / 1000 % 10) else wt
abbrev wgC (n : Nat) (x y z : Int) : Prop := (0 ≤ x ∧ x < (n : Int)) ∧ (0 ≤ y ∧ y < 4) ∧ (0 ≤ z ∧ z ≤ 8)
def wgW (n : Nat) (wt : Nat → Int) (x y z : Int) : Nat → Int := if wgC n x y z then up1 wt (4 * x.toNat + y.toNat) z else wt
/-- sums and products -/
def sm (f : Nat → Int) : Nat → Int
  | 0 => 0
  | n + 1 => sm f n + f n
def pdn (f : Nat → Int) : Nat → Int
  | 0 => 1
  | n + 1 => pdn f n * f n
def pdr (f : Nat → Int) (a : Nat) : Nat → Int
  | 0 => 1
  | d + 1 => pdr f a d * f (a + d)
/-- the three places that lead to s -/
def s3 (f : Nat → Int) (s : Nat) : Int := (if 2 ≤ s then f (s - 2) else 0) + (if 1 ≤ s then f (s - 1) else 0) + f s
/-- sums over the ways up to a place behind t frames -/
def Vf (w : Nat → Int) (lb : Nat → Nat) : Nat → Nat → Int
  | 0, s => if s = 0 then 1 else 0
  | t + 1, s => s3 (fun r => if ld lb r s then Vf w lb t r else 0) s * w (4 * t + mk lb s)
/-- the three places that s leads to -/
def b3 (f : Nat → Int) (s k : Nat) : Int := f s + (if s + 1 ≤ 2 * k then f (s + 1) else 0) + (if s + 2 ≤ 2 * k then f (s + 2) else 0)
/-- sums over the ways from a place on, d frames left -/
def Bk (w : Nat → Int) (lb : Nat → Nat) (k n : Nat) : Nat → Nat → Int
  | 0, s => if 2 * k ≤ s + 1 then 1 else 0
  | d + 1, s => b3 (fun r => if ld lb s r then w (4 * (n - 1 - d) + mk lb r) * Bk w lb k n d r else 0) s k
def mst (b : Bool) (w x most : Int) : Int := if b = true ∧ 0 ≤ x ∧ most < w * x then w * x else most
/-- the greatest weight from a place on, d frames left; -1 for none -/
def Mx (w : Nat → Int) (lb : Nat → Nat) (k n : Nat) : Nat → Nat → Int
  | 0, s => if 2 * k ≤ s + 1 then 1 else -1
  | d + 1, s =>
    mst (ld lb s (s + 2) && decide (s + 2 ≤ 2 * k)) (w (4 * (n - 1 - d) + mk lb (s + 2))) (Mx w lb k n d (s + 2))
      (mst (ld lb s (s + 1) && decide (s + 1 ≤ 2 * k)) (w (4 * (n - 1 - d) + mk lb (s + 1))) (Mx w lb k n d (s + 1))
        (mst (ld lb s s) (w (4 * (n - 1 - d) + mk lb s)) (Mx w lb k n d s) (-1)))
def tot (w : Nat → Int) (lb : Nat → Nat) (k n : Nat) : Int := sm (fun s => if 2 * k ≤ s + 1 then Vf w lb n s else 0) (2 * k + 1)
def thR (wt : Nat → Int) (lb : Nat → Nat) (k n : Nat) (x y : Int) : Int := if (0 ≤ x ∧ x < (n : Int)) ∧ (0 ≤ y ∧ y < 4) then sm (fun s => if ((mk lb s : Nat) : Int) = y then Vf wt lb (x.toNat + 1) s * Bk wt lb k n (n - 1 - x.toNat) s else 0) (2 * k + 1) else -1
/-- the ways that come to the last mark for the first time -/
def pfA (wt : Nat → Int) (lb : Nat → Nat) (k t : Nat) : Int := (if 2 ≤ k ∧ ld lb (2 * k - 3) (2 * k - 1) = true then Vf wt lb t (2 * k - 3) else 0) + (if ld lb (2 * k - 2) (2 * k - 1) = true then Vf wt lb t (2 * k - 2) else 0)
def pfR (wt : Nat → Int) (lb : Nat → Nat) (k n : Nat) : Int := if k = 0 then pdn (fsm wt) n else sm (fun t => pfA wt lb k t * wt (4 * t + mk lb (2 * k - 1)) * pdr (fsm wt) (t + 1) (n - 1 - t)) n
def bnS (T : Nat → Int) : Nat → Int × Int
  | 0 => (0, 0)
  | i + 1 => if zI (bnS T i).2 < zI (T (i + 1)) then (((i + 1 : Nat) : Int), T (i + 1)) else bnS T i
def bnR (wt : Nat → Int) (lb : Nat → Nat) (k n : Nat) : Int := if k < 4 then (bnS (fun i => tot wt (up1 lb k i) (k + 1) n) 3).1 else 0
def bnL (k : Nat) (lb : Nat → Nat) : Nat → Nat := if k < 4 then up1 lb k 3 else lb
/-- following the greatest weight -/
def kp (wt : Nat → Int) (lb : Nat → Nat) (k n : Nat) (u : Nat) (a : Option Nat) (so : Int) (s : Nat) : Bool :=
  (match a with | none => decide (s ≤ 1) | some b => ld lb b s) && decide (0 ≤ Mx wt lb k n (n - 1 - u) s ∧ so * wt (4 * u + mk lb s) * Mx wt lb k n (n - 1 - u) s = Mx wt lb k n n 0)
def pck (K : Nat → Bool) (f : Nat → Nat) : Nat → Option Nat
  | 0 => none
  | i + 1 => if K i = true ∧ (∀ b, pck K f i = some b → f i < f b) then some i else pck K f i
def gst (wt : Nat → Int) (lb : Nat → Nat) (k n : Nat) : Nat → Option Nat × Int
  | 0 => (none, 1)
  | u + 1 => (pck (kp wt lb k n u (gst wt lb k n u).1 (gst wt lb k n u).2) (mk lb) (2 * k + 1), (gst wt lb k n u).2 * wt (4 * u + mk lb ((pck (kp wt lb k n u (gst wt lb k n u).1 (gst wt lb k n u).2) (mk lb) (2 * k + 1)).getD 0)))
def gpl (wt : Nat → Int) (lb : Nat → Nat) (k n u : Nat) : Option Nat := (gst wt lb k n u).1
def baR (wt : Nat → Int) (lb : Nat → Nat) (k n : Nat) (x : Int) : Int := if 0 ≤ x ∧ x < (n : Int) then (if Mx wt lb k n n 0 < 0 then -1 else ((mk lb ((gpl wt lb k n (x.toNat + 1)).getD 0) : Nat) : Int)) else -1
/-- the model: digits of a path's number, its weight, what it reads -/
def dg (n c t : Nat) : Nat := c / 4 ^ (n - 1 - t) % 4
def pw (wt : Nat → Int) (n c : Nat) : Int := pdn (fun t => wt (4 * t + dg n c t)) n
def rl (pa : Nat → Nat) : Nat → List Nat
  | 0 => []
  | t + 1 => if (t = 0 ∨ pa t ≠ pa (t - 1)) ∧ pa t ≠ 0 then rl pa t ++ [pa t] else rl pa t
def fit (lb : Nat → Nat) (k : Nat) (L : List Nat) (x : Nat) : Bool := decide ((x = 0 → L.length = k) ∧ (x ≠ 0 → k ≤ L.length)) && decide (∀ j, j < k → L[j]? = some (lb j))
def fitc (lb : Nat → Nat) (k n c x : Nat) : Bool := fit lb k (rl (dg n c) n) x
def mtot (wt : Nat → Int) (lb : Nat → Nat) (k n : Nat) : Int := sm (fun c => if fitc lb k n c 0 = true then pw wt n c else 0) (4 ^ n)
def mfo (wt : Nat → Int) (lb : Nat → Nat) (k n : Nat) : Nat → Int × Int
  | 0 => (-1, 0)
  | c + 1 => if fitc lb k n c 0 = true ∧ ((mfo wt lb k n c).1 < 0 ∨ (mfo wt lb k n c).2 < pw wt n c) then ((c : Int), pw wt n c) else mfo wt lb k n c
def mbR (wt : Nat → Int) (lb : Nat → Nat) (k n : Nat) : Int := if (mfo wt lb k n (4 ^ n)).1 < 0 then 0 else pw wt n (mfo wt lb k n (4 ^ n)).1.toNat
def mthR (wt : Nat → Int) (lb : Nat → Nat) (k n : Nat) (x y : Int) : Int := if (0 ≤ x ∧ x < (n : Int)) ∧ (0 ≤ y ∧ y < 4) then sm (fun c => if ((dg n c x.toNat : Nat) : Int) = y ∧ fitc lb k n c 0 = true then pw wt n c else 0) (4 ^ n) else -1
def mpfR (wt : Nat → Int) (lb : Nat → Nat) (k n : Nat) : Int := sm (fun c => if fitc lb k n c 1 = true then pw wt n c else 0) (4 ^ n)
def mbnR (wt : Nat → Int) (lb : Nat → Nat) (k n : Nat) : Int := if k < 4 then (bnS (fun i => mtot wt (up1 lb k i) (k + 1) n) 3).1 else 0
def mbaR (wt : Nat → Int) (lb : Nat → Nat) (k n : Nat) (x : Int) : Int := if (mfo wt lb k n (4 ^ n)).1 < 0 ∨ ¬ (0 ≤ x ∧ x < (n : Int)) then -1 else ((dg n (mfo wt lb k n (4 ^ n)).1.toNat x.toNat : Nat) : Int)
theorem mk_le {lb : Nat → Nat} (hb : ∀ j, lb j ≤ 3) (s : Nat) : mk lb s ≤ 3 := by
  unfold mk; split
  · omega
  · exact hb _
theorem up1_up1 {α : Type} (f : Nat → α) (k : Nat) (x y : α) : up1 (up1 f k x) k y = up1 f k y := by
  funext j; unfold up1; split <;> rfl
theorem ew_0 (wt : Nat → Int) : ew 0 wt = wt := rfl
theorem ew_1 (wt : Nat → Int) : ew 1 wt = fun _ => 1 := rfl
end
section
/-! two ways that meet, the heap of either way -/
section JN
variable {p : Program} {l : Launch} {e : Env} {R : Room} {s : State} {m : MethodId} {args : Array Value} {below : List Frame} {meth : Method} {c : Code} {H : Heap} {locs : List Loc} {cells slots : Nat} {Q : State → Prop}
variable {pc : Nat} {ls : Array Slot} {rest : List Value} {A : Nat → Prop} {D : va_G} {tys : List (ClassId × FieldType)} {w : va_W}
theorem z_joinH (h : wh D w tys A s H locs) (pcJ : Nat) (a : Int) (hB : (∀ (b : Int) (H1 : Heap) (locs1 : List Loc), b = a → wh D w tys A s H1 locs1 → W p l e R s m args below meth c H1 locs1 cells slots Q (F0 m pcJ ls (.int (zI b) :: rest))) → W p l e R s m args below meth c H locs cells slots Q (F0 m pc ls rest)) (hJ : ∀ (H1 : Heap) (locs1 : List Loc), wh D w tys A s H1 locs1 → W p l e R s m args below meth c H1 locs1 cells slots Q (F0 m pcJ ls (.int (zI a) :: rest))) : W p l e R s m args below meth c H locs cells slots Q (F0 m pc ls rest) := hB (fun b H1 locs1 hb hw => by subst hb; exact hJ H1 locs1 hw)
end JN
/-- a place's term in the sum that is carried on -/
def cmt (up : Nat → Int) (lb : Nat → Nat) (t j : Nat) (r : Int) : Int := if (0 < t ∧ 0 ≤ r) ∧ ld lb r.toNat j = true then up (9 * (t - 1) + r.toNat) else 0
theorem v_sum (w up : Nat → Int) (lb : Nat → Nat) (t j : Nat) (hI : ∀ s, s ≤ j → 0 < t → up (9 * (t - 1) + s) = Vf w lb t s) : bz (decide (t = 0 ∧ j ≤ 1)) + cmt up lb t j ((j : Int) - 2) + cmt up lb t j ((j : Int) - 2 + 1) + cmt up lb t j ((j : Int) - 2 + 1 + 1) = s3 (fun r => if ld lb r j then Vf w lb t r else 0) j := by
  cases t with
  | zero =>
    have c0 : ∀ r, cmt up lb 0 j r = 0 := fun r => by simp [cmt]
    rw [c0, c0, c0]
    match j with
    | 0 => simp [s3, Vf, ld, bz]
    | 1 => simp [s3, Vf, ld, bz]
    | 2 => simp [s3, Vf, ld, bz]
    | j + 3 => simp [s3, Vf, bz]
  | succ t =>
    have c1 : ∀ i : Nat, i ≤ j → cmt up lb (t + 1) j (i : Int) = if ld lb i j then Vf w lb (t + 1) i else 0 := by
      intro i hi
      unfold cmt
      rw [Int.toNat_natCast, hI i hi (by omega)]
      by_cases hld : ld lb i j = true
      · rw [if_pos ⟨⟨by omega, by omega⟩, hld⟩, if_pos hld]
      · rw [if_neg (fun q => hld q.2), if_neg hld]
    have c2 : ∀ r : Int, r < 0 → cmt up lb (t + 1) j r = 0 := by
      intro r hr
      unfold cmt
      rw [if_neg (by omega)]
    have b0 : bz (decide (t + 1 = 0 ∧ j ≤ 1)) = 0 := by simp [bz]
    rw [b0]
    unfold s3
    have e3 : cmt up lb (t + 1) j ((j : Int) - 2 + 1 + 1) = if ld lb j j then Vf w lb (t + 1) j else 0 := by
      rw [show (j : Int) - 2 + 1 + 1 = (j : Int) by omega]; exact c1 j (Nat.le_refl _)
    have e2 : cmt up lb (t + 1) j ((j : Int) - 2 + 1) = if 1 ≤ j then (if ld lb (j - 1) j then Vf w lb (t + 1) (j - 1) else 0) else 0 := by
      by_cases h1 : 1 ≤ j
      · rw [show (j : Int) - 2 + 1 = ((j - 1 : Nat) : Int) by omega, if_pos h1]; exact c1 _ (by omega)
      · rw [if_neg h1]; exact c2 _ (by omega)
    have e1 : cmt up lb (t + 1) j ((j : Int) - 2) = if 2 ≤ j then (if ld lb (j - 2) j then Vf w lb (t + 1) (j - 2) else 0) else 0 := by
      by_cases h1 : 2 ≤ j
      · rw [show (j : Int) - 2 = ((j - 2 : Nat) : Int) by omega, if_pos h1]; exact c1 _ (by omega)
      · rw [if_neg h1]; exact c2 _ (by omega)
    rw [e1, e2, e3]
    simp only [Int.zero_add]
end
section
/-! THE DESK, leaves -/
set_option maxHeartbeats 4000000 in
set_option maxRecDepth 100000 in
theorem mX0_isMark (l : Launch) (D : va_G) (ad : Nat → Nat) (ca : Nat → ClassId) (n : Nat) (wt : Nat → Int) (k : Nat) (lb : Nat → Nat) (pl : Int) (up : Nat → Int) (on : Nat → Int) (bo : Nat → Int) (x : Int) (hx : -2147483648 ≤ x ∧ x < 2147483648) : Ci l D (dt ca) yX0_isMark cX0_isMark 1 (some .boolean) 0 0 [.int (zI x)] (dw ad ca n wt k lb pl up on bo) (fun r w => r = zI (bz (decide (0 ≤ x ∧ x < 4))) ∧ w = dw ad ca n wt k lb pl up on bo) := by
  refine Cz.of (by decide) (Nat.le_of_ble_eq_true rfl) (by simp [Value.category]) ?_
  intro p e R s m args below meth c A Q ls hRf hRl F h hl ret
  have F : fx p m meth c s args cX0_isMark 1 RX0 A := F
  refine z_join 14 (bz (decide (0 ≤ x ∧ x < 4))) (fun J => ?_) ?_
  · refine z_iload_n F hl dX0_isMark_0 rfl ?_
    refine z_if_lt F 13 dX0_isMark_1 (fun c1 => ?_) (fun c1 => ?_)
    · refine z_iconst F dX0_isMark_13 ?_
      exact J _ (bz_df (by omega))
    · refine z_iload_n F hl dX0_isMark_4 rfl ?_
      refine z_iconst F dX0_isMark_5 ?_
      refine z_icmp_ge F 13 dX0_isMark_6 (fun c6 => ?_) (fun c6 => ?_)
      · refine z_iconst F dX0_isMark_13 ?_
        exact J _ (bz_df (by omega))
      · refine z_iconst F dX0_isMark_9 ?_
        refine z_goto F 14 dX0_isMark_10 ?_
        exact J _ (bz_dt (by omega))
  · exact ret _ _ _ _ _ _ dX0_isMark_14 h (bz_01 _) ⟨rfl, rfl⟩
theorem rX0_isMark {p : Program} {l : Launch} {e : Env} {R : Room} {s : State} {m : MethodId} {args : Array Value} {below : List Frame} {meth : Method} {c : Code} {H : Heap} {locs : List Loc} {Q : State → Prop} {cc : ByteArray} {pc : Nat} {ls : Array Slot} {rest : List Value} {nL : Nat} {A : Nat → Prop} {vs : List (Option Value)} {D : va_G} {ad : Nat → Nat} {ca : Nat → ClassId} {n : Nat} {wt : Nat → Int} {k : Nat} {lb : Nat → Nat} {pl : Int} {up : Nat → Int} {on : Nat → Int} {bo : Nat → Int} (F : fx p m meth c s args cc nL RX0 A) (h : wh D (dw ad ca n wt k lb pl up on bo) (dt ca) A s H locs) (hl : lz ls nL vs) (x : Int) {a0 : Int} (hdg : decode cc pc = .ok (.invokestatic 34, 3)) (kk : ∀ (H1 : Heap) (locs1 : List Loc), wh D (dw ad ca n wt k lb pl up on bo) (dt ca) A s H1 locs1 → W p l e R s m args below meth c H1 locs1 0 0 Q (F0 m (pc + 3) ls (.int (zI (bz (decide (0 ≤ x ∧ x < 4)))) :: rest))) (hx : -2147483648 ≤ x ∧ x < 2147483648 := by first | assumption | omega) (e0 : a0 = x := by first | rfl | omega) (hR : 0 + 1 ≤ R.frames ∧ 8 + (1 + 11) + 0 ≤ R.locals := by omega) (hroom : (rest.map fun v => v.category).sum ≤ 8 := by exact Nat.le_of_ble_eq_true rfl) : W p l e R s m args below meth c H locs 0 0 Q (F0 m pc ls (.int (zI a0) :: rest)) := by
  rw [e0]
  refine cs_call (n := 1) F h (mX0_isMark l D ad ca n wt k lb pl up on bo x hx) (lw_S q72 q73 q19 q74) (by decide +kernel) rfl hR ⟨Nat.zero_le _, Nat.zero_le _⟩ hl rfl hroom hdg (fun r w1 H1 locs1 hp hw => ?_)
  obtain ⟨rfl, rfl⟩ := hp
  exact kk H1 locs1 hw
set_option maxHeartbeats 4000000 in
set_option maxRecDepth 100000 in
theorem mX0_isFrame (l : Launch) (D : va_G) (ad : Nat → Nat) (ca : Nat → ClassId) (n : Nat) (wt : Nat → Int) (k : Nat) (lb : Nat → Nat) (pl : Int) (up : Nat → Int) (on : Nat → Int) (bo : Nat → Int) (x : Int) (hx : -2147483648 ≤ x ∧ x < 2147483648) (hn : n ≤ 6) : Ci l D (dt ca) yX0_isFrame cX0_isFrame 2 (some .boolean) 0 0 [.ref (ad 0), .int (zI x)] (dw ad ca n wt k lb pl up on bo) (fun r w => r = zI (bz (decide (0 ≤ x ∧ x < n))) ∧ w = dw ad ca n wt k lb pl up on bo) := by
  refine Cz.of (by decide) (Nat.le_of_ble_eq_true rfl) (by simp [Value.category]) ?_
  intro p e R s m args below meth c A Q ls hRf hRl F h hl ret
  have F : fx p m meth c s args cX0_isFrame 2 RX0 A := F
  refine z_join 17 (bz (decide (0 ≤ x ∧ x < n))) (fun J => ?_) ?_
  · refine z_iload_n F hl dX0_isFrame_0 rfl ?_
    refine z_if_lt F 16 dX0_isFrame_1 (fun c1 => ?_) (fun c1 => ?_)
    · refine z_iconst F dX0_isFrame_16 ?_
      exact J _ (bz_df (by omega))
    · refine z_iload_n F hl dX0_isFrame_4 rfl ?_
      refine z_aload_n F hl dX0_isFrame_5 rfl ?_
      refine dk_g0 F h dX0_isFrame_6 ?_
      refine z_icmp_ge F 16 dX0_isFrame_9 (fun c9 => ?_) (fun c9 => ?_)
      · refine z_iconst F dX0_isFrame_16 ?_
        exact J _ (bz_df (by omega))
      · refine z_iconst F dX0_isFrame_12 ?_
        refine z_goto F 17 dX0_isFrame_13 ?_
        exact J _ (bz_dt (by omega))
  · exact ret _ _ _ _ _ _ dX0_isFrame_17 h (bz_01 _) ⟨rfl, rfl⟩
theorem rX0_isFrame {p : Program} {l : Launch} {e : Env} {R : Room} {s : State} {m : MethodId} {args : Array Value} {below : List Frame} {meth : Method} {c : Code} {H : Heap} {locs : List Loc} {Q : State → Prop} {cc : ByteArray} {pc : Nat} {ls : Array Slot} {rest : List Value} {nL : Nat} {A : Nat → Prop} {vs : List (Option Value)} {D : va_G} {ad : Nat → Nat} {ca : Nat → ClassId} {n : Nat} {wt : Nat → Int} {k : Nat} {lb : Nat → Nat} {pl : Int} {up : Nat → Int} {on : Nat → Int} {bo : Nat → Int} (F : fx p m meth c s args cc nL RX0 A) (h : wh D (dw ad ca n wt k lb pl up on bo) (dt ca) A s H locs) (hl : lz ls nL vs) (x : Int) {a0 : Int} (hdg : decode cc pc = .ok (.invokevirtual 30, 3)) (kk : ∀ (H1 : Heap) (locs1 : List Loc), wh D (dw ad ca n wt k lb pl up on bo) (dt ca) A s H1 locs1 → W p l e R s m args below meth c H1 locs1 0 0 Q (F0 m (pc + 3) ls (.int (zI (bz (decide (0 ≤ x ∧ x < n)))) :: rest))) (hx : -2147483648 ≤ x ∧ x < 2147483648 := by first | assumption | omega) (hn : n ≤ 6 := by first | assumption | omega) (e0 : a0 = x := by first | rfl | omega) (hR : 0 + 1 ≤ R.frames ∧ 8 + (2 + 11) + 0 ≤ R.locals := by omega) (hroom : (rest.map fun v => v.category).sum ≤ 8 := by exact Nat.le_of_ble_eq_true rfl) : W p l e R s m args below meth c H locs 0 0 Q (F0 m pc ls (.int (zI a0) :: .ref (ad 0) :: rest)) := by
  rw [e0]
  refine ci_call (ci := 0) (C := RX0) (T := TX0) (N := 8) (n := 1) F h (mX0_isFrame l D ad ca n wt k lb pl up on bo x hx hn) (lw_V q68 q70 qs0 q19 q71) (by decide +kernel) rfl rfl rfl hR ⟨Nat.zero_le _, Nat.zero_le _⟩ hl rfl hroom hdg (fun r w1 H1 locs1 hp hw => ?_)
  obtain ⟨rfl, rfl⟩ := hp
  exact kk H1 locs1 hw
set_option maxHeartbeats 4000000 in
set_option maxRecDepth 100000 in
theorem mX0_markAt (l : Launch) (D : va_G) (ad : Nat → Nat) (ca : Nat → ClassId) (n : Nat) (wt : Nat → Int) (k : Nat) (lb : Nat → Nat) (pl : Int) (up : Nat → Int) (on : Nat → Int) (bo : Nat → Int) (j : Nat) (hj : j < 9) : Ci l D (dt ca) yX0_markAt cX0_markAt 2 (some .int) 0 0 [.ref (ad 0), .int (zI (j : Int))] (dw ad ca n wt k lb pl up on bo) (fun r w => r = zI (((mk lb j : Nat) : Int)) ∧ w = dw ad ca n wt k lb pl up on bo) := by
  refine Ci.of (by decide) (Nat.le_of_ble_eq_true rfl) (by simp [Value.category]) ?_
  intro p e R s m args below meth c A Q ls hRf hRl F h hl ret
  have F : fx p m meth c s args cX0_markAt 2 RX0 A := F
  refine z_join 18 ((mk lb j : Nat) : Int) (fun J => ?_) ?_
  · refine z_iload_n F hl dX0_markAt_0 rfl ?_
    refine z_iconst F dX0_markAt_1 ?_
    refine lv_iand F.1 F.2.1 dX0_markAt_2 ?_
    rw [show zI ((j : Nat) : Int) &&& zI 1 = zI ((j % 2 ^ 1 : Nat) : Int) from zI_and (b := 1) (by omega) 1 (by decide)]
    refine z_if_ne F 10 dX0_markAt_3 (fun c3 => ?_) (fun c3 => ?_)
    · refine z_aload_n F hl dX0_markAt_10 rfl ?_
      refine dk_g3 F h dX0_markAt_11 ?_
      refine z_iload_n F hl dX0_markAt_14 rfl ?_
      refine z_iconst F dX0_markAt_15 ?_
      refine lv_ishr F.1 F.2.1 dX0_markAt_16 ?_
      rw [show zI ((j : Nat) : Int) >>> (zI 1 &&& 31) = zI ((j / 2 ^ 1 : Nat) : Int) from zI_shr (b := 1) (by omega) (by decide)]
      refine dk_l2 F h (j / 2) dX0_markAt_17 ?_
      refine J _ ?_
      have : ¬ j % 2 = 0 := by omega
      simp [mk, this]
    · refine z_iconst F dX0_markAt_6 ?_
      refine z_goto F 18 dX0_markAt_7 ?_
      refine J _ ?_
      have : j % 2 = 0 := by omega
      simp [mk, this]
  · exact ret _ _ _ _ _ _ dX0_markAt_18 h ⟨rfl, rfl⟩
theorem rX0_markAt {p : Program} {l : Launch} {e : Env} {R : Room} {s : State} {m : MethodId} {args : Array Value} {below : List Frame} {meth : Method} {c : Code} {H : Heap} {locs : List Loc} {Q : State → Prop} {cc : ByteArray} {pc : Nat} {ls : Array Slot} {rest : List Value} {nL : Nat} {A : Nat → Prop} {vs : List (Option Value)} {D : va_G} {ad : Nat → Nat} {ca : Nat → ClassId} {n : Nat} {wt : Nat → Int} {k : Nat} {lb : Nat → Nat} {pl : Int} {up : Nat → Int} {on : Nat → Int} {bo : Nat → Int} (F : fx p m meth c s args cc nL RX0 A) (h : wh D (dw ad ca n wt k lb pl up on bo) (dt ca) A s H locs) (hl : lz ls nL vs) (j : Nat) {a0 : Int} (hdg : decode cc pc = .ok (.invokevirtual 44, 3)) (kk : ∀ (H1 : Heap) (locs1 : List Loc), wh D (dw ad ca n wt k lb pl up on bo) (dt ca) A s H1 locs1 → W p l e R s m args below meth c H1 locs1 0 0 Q (F0 m (pc + 3) ls (.int (zI (((mk lb j : Nat) : Int))) :: rest))) (hj : j < 9 := by first | assumption | omega) (e0 : a0 = (j : Int) := by first | rfl | omega) (hR : 0 + 1 ≤ R.frames ∧ 8 + (2 + 11) + 0 ≤ R.locals := by omega) (hroom : (rest.map fun v => v.category).sum ≤ 8 := by exact Nat.le_of_ble_eq_true rfl) : W p l e R s m args below meth c H locs 0 0 Q (F0 m pc ls (.int (zI a0) :: .ref (ad 0) :: rest)) := by
  rw [e0]
  refine ci_call (ci := 0) (C := RX0) (T := TX0) (N := 8) (n := 1) F h (mX0_markAt l D ad ca n wt k lb pl up on bo j hj) (lw_V q107 q109 qs4 q19 q110) (by decide +kernel) rfl rfl rfl hR ⟨Nat.zero_le _, Nat.zero_le _⟩ hl rfl hroom hdg (fun r w1 H1 locs1 hp hw => ?_)
  obtain ⟨rfl, rfl⟩ := hp
  exact kk H1 locs1 hw
set_option maxHeartbeats 4000000 in
set_option maxRecDepth 100000 in
theorem mX0_weightOf (l : Launch) (D : va_G) (ad : Nat → Nat) (ca : Nat → ClassId) (n : Nat) (wt : Nat → Int) (k : Nat) (lb : Nat → Nat) (pl : Int) (up : Nat → Int) (on : Nat → Int) (bo : Nat → Int) (t x : Nat) (ht : 4 * t + x < 24) (hp : pl = 0 ∨ pl = 1) : Ci l D (dt ca) yX0_weightOf cX0_weightOf 3 (some .int) 0 0 [.ref (ad 0), .int (zI (t : Int)), .int (zI (x : Int))] (dw ad ca n wt k lb pl up on bo) (fun r w => r = zI (ew pl wt (4 * t + x)) ∧ w = dw ad ca n wt k lb pl up on bo) := by
  refine Ci.of (by decide) (Nat.le_of_ble_eq_true rfl) (by simp [Value.category]) ?_
  intro p e R s m args below meth c A Q ls hRf hRl F h hl ret
  have F : fx p m meth c s args cX0_weightOf 3 RX0 A := F
  refine z_join 21 (ew pl wt (4 * t + x)) (fun J => ?_) ?_
  · refine z_aload_n F hl dX0_weightOf_0 rfl ?_
    refine dk_g4 F h dX0_weightOf_1 ?_
    refine z_if_eq F 11 dX0_weightOf_4 (fun c4 => ?_) (fun c4 => ?_)
    · refine z_aload_n F hl dX0_weightOf_11 rfl ?_
      refine dk_g1 F h dX0_weightOf_12 ?_
      refine z_iload_n F hl dX0_weightOf_15 rfl ?_
      refine z_iconst F dX0_weightOf_16 ?_
      refine z_imul F dX0_weightOf_17 ?_
      refine z_iload_n F hl dX0_weightOf_18 rfl ?_
      refine z_iadd F dX0_weightOf_19 ?_
      refine dk_l1 F h (4 * t + x) dX0_weightOf_20 ?_
      refine J _ ?_
      simp [ew, c4]
    · refine z_iconst F dX0_weightOf_7 ?_
      refine z_goto F 21 dX0_weightOf_8 ?_
      refine J _ ?_
      simp [ew, c4]
  · exact ret _ _ _ _ _ _ dX0_weightOf_21 h ⟨rfl, rfl⟩
theorem rX0_weightOf {p : Program} {l : Launch} {e : Env} {R : Room} {s : State} {m : MethodId} {args : Array Value} {below : List Frame} {meth : Method} {c : Code} {H : Heap} {locs : List Loc} {Q : State → Prop} {cc : ByteArray} {pc : Nat} {ls : Array Slot} {rest : List Value} {nL : Nat} {A : Nat → Prop} {vs : List (Option Value)} {D : va_G} {ad : Nat → Nat} {ca : Nat → ClassId} {n : Nat} {wt : Nat → Int} {k : Nat} {lb : Nat → Nat} {pl : Int} {up : Nat → Int} {on : Nat → Int} {bo : Nat → Int} (F : fx p m meth c s args cc nL RX0 A) (h : wh D (dw ad ca n wt k lb pl up on bo) (dt ca) A s H locs) (hl : lz ls nL vs) (t x : Nat) {a0 : Int} {a1 : Int} (hdg : decode cc pc = .ok (.invokevirtual 52, 3)) (kk : ∀ (H1 : Heap) (locs1 : List Loc), wh D (dw ad ca n wt k lb pl up on bo) (dt ca) A s H1 locs1 → W p l e R s m args below meth c H1 locs1 0 0 Q (F0 m (pc + 3) ls (.int (zI (ew pl wt (4 * t + x))) :: rest))) (ht : 4 * t + x < 24 := by first | assumption | omega) (hp : pl = 0 ∨ pl = 1 := by first | assumption | omega) (e0 : a0 = (t : Int) := by first | rfl | omega) (e1 : a1 = (x : Int) := by first | rfl | omega) (hR : 0 + 1 ≤ R.frames ∧ 8 + (3 + 11) + 0 ≤ R.locals := by omega) (hroom : (rest.map fun v => v.category).sum ≤ 8 := by exact Nat.le_of_ble_eq_true rfl) : W p l e R s m args below meth c H locs 0 0 Q (F0 m pc ls (.int (zI a1) :: .int (zI a0) :: .ref (ad 0) :: rest)) := by
  rw [e0]
  rw [e1]
  refine ci_call (ci := 0) (C := RX0) (T := TX0) (N := 8) (n := 2) F h (mX0_weightOf l D ad ca n wt k lb pl up on bo t x ht hp) (lw_V q111 q113 qs5 q19 q114) (by decide +kernel) rfl rfl rfl hR ⟨Nat.zero_le _, Nat.zero_le _⟩ hl rfl hroom hdg (fun r w1 H1 locs1 hp hw => ?_)
  obtain ⟨rfl, rfl⟩ := hp
  exact kk H1 locs1 hw
set_option maxHeartbeats 4000000 in
set_option maxRecDepth 100000 in
theorem mX0_endsAt (l : Launch) (D : va_G) (ad : Nat → Nat) (ca : Nat → ClassId) (n : Nat) (wt : Nat → Int) (k : Nat) (lb : Nat → Nat) (pl : Int) (up : Nat → Int) (on : Nat → Int) (bo : Nat → Int) (j : Nat) (hj : j < 9) (hk : k ≤ 4) : Ci l D (dt ca) yX0_endsAt cX0_endsAt 2 (some .boolean) 0 0 [.ref (ad 0), .int (zI (j : Int))] (dw ad ca n wt k lb pl up on bo) (fun r w => r = zI (bz (decide (2 * k ≤ j + 1))) ∧ w = dw ad ca n wt k lb pl up on bo) := by
  refine Cz.of (by decide) (Nat.le_of_ble_eq_true rfl) (by simp [Value.category]) ?_
  intro p e R s m args below meth c A Q ls hRf hRl F h hl ret
  have F : fx p m meth c s args cX0_endsAt 2 RX0 A := F
  refine z_join 17 (bz (decide (2 * k ≤ j + 1))) (fun J => ?_) ?_
  · refine z_iload_n F hl dX0_endsAt_0 rfl ?_
    refine z_iconst F dX0_endsAt_1 ?_
    refine z_aload_n F hl dX0_endsAt_2 rfl ?_
    refine dk_g2 F h dX0_endsAt_3 ?_
    refine z_imul F dX0_endsAt_6 ?_
    refine z_iconst F dX0_endsAt_7 ?_
    refine z_isub F dX0_endsAt_8 ?_
    refine z_icmp_lt F 16 dX0_endsAt_9 (fun c9 => ?_) (fun c9 => ?_)
    · refine z_iconst F dX0_endsAt_16 ?_
      exact J _ (bz_df (by omega))
    · refine z_iconst F dX0_endsAt_12 ?_
      refine z_goto F 17 dX0_endsAt_13 ?_
      exact J _ (bz_dt (by omega))
  · exact ret _ _ _ _ _ _ dX0_endsAt_17 h (bz_01 _) ⟨rfl, rfl⟩
theorem rX0_endsAt {p : Program} {l : Launch} {e : Env} {R : Room} {s : State} {m : MethodId} {args : Array Value} {below : List Frame} {meth : Method} {c : Code} {H : Heap} {locs : List Loc} {Q : State → Prop} {cc : ByteArray} {pc : Nat} {ls : Array Slot} {rest : List Value} {nL : Nat} {A : Nat → Prop} {vs : List (Option Value)} {D : va_G} {ad : Nat → Nat} {ca : Nat → ClassId} {n : Nat} {wt : Nat → Int} {k : Nat} {lb : Nat → Nat} {pl : Int} {up : Nat → Int} {on : Nat → Int} {bo : Nat → Int} (F : fx p m meth c s args cc nL RX0 A) (h : wh D (dw ad ca n wt k lb pl up on bo) (dt ca) A s H locs) (hl : lz ls nL vs) (j : Nat) {a0 : Int} (hdg : decode cc pc = .ok (.invokevirtual 56, 3)) (kk : ∀ (H1 : Heap) (locs1 : List Loc), wh D (dw ad ca n wt k lb pl up on bo) (dt ca) A s H1 locs1 → W p l e R s m args below meth c H1 locs1 0 0 Q (F0 m (pc + 3) ls (.int (zI (bz (decide (2 * k ≤ j + 1)))) :: rest))) (hj : j < 9 := by first | assumption | omega) (hk : k ≤ 4 := by first | assumption | omega) (e0 : a0 = (j : Int) := by first | rfl | omega) (hR : 0 + 1 ≤ R.frames ∧ 8 + (2 + 11) + 0 ≤ R.locals := by omega) (hroom : (rest.map fun v => v.category).sum ≤ 8 := by exact Nat.le_of_ble_eq_true rfl) : W p l e R s m args below meth c H locs 0 0 Q (F0 m pc ls (.int (zI a0) :: .ref (ad 0) :: rest)) := by
  rw [e0]
  refine ci_call (ci := 0) (C := RX0) (T := TX0) (N := 8) (n := 1) F h (mX0_endsAt l D ad ca n wt k lb pl up on bo j hj hk) (lw_V q115 q117 qs6 q19 q118) (by decide +kernel) rfl rfl rfl hR ⟨Nat.zero_le _, Nat.zero_le _⟩ hl rfl hroom hdg (fun r w1 H1 locs1 hp hw => ?_)
  obtain ⟨rfl, rfl⟩ := hp
  exact kk H1 locs1 hw
set_option maxHeartbeats 4000000 in
set_option maxRecDepth 100000 in
theorem mX0_frames (l : Launch) (D : va_G) (ad : Nat → Nat) (ca : Nat → ClassId) (n : Nat) (wt : Nat → Int) (k : Nat) (lb : Nat → Nat) (pl : Int) (up : Nat → Int) (on : Nat → Int) (bo : Nat → Int)   : Ci l D (dt ca) yX0_frames cX0_frames 1 (some .int) 0 0 [.ref (ad 0)] (dw ad ca n wt k lb pl up on bo) (fun r w => r = zI ((n : Int)) ∧ w = dw ad ca n wt k lb pl up on bo) := by
  refine Ci.of (by decide) (Nat.le_of_ble_eq_true rfl) (by simp [Value.category]) ?_
  intro p e R s m args below meth c A Q ls hRf hRl F h hl ret
  have F : fx p m meth c s args cX0_frames 1 RX0 A := F
  refine z_aload_n F hl dX0_frames_0 rfl ?_
  refine dk_g0 F h dX0_frames_1 ?_
  exact ret _ _ _ _ _ _ dX0_frames_4 h ⟨rfl, rfl⟩
set_option maxHeartbeats 4000000 in
set_option maxRecDepth 100000 in
theorem mX0_length (l : Launch) (D : va_G) (ad : Nat → Nat) (ca : Nat → ClassId) (n : Nat) (wt : Nat → Int) (k : Nat) (lb : Nat → Nat) (pl : Int) (up : Nat → Int) (on : Nat → Int) (bo : Nat → Int)   : Ci l D (dt ca) yX0_length cX0_length 1 (some .int) 0 0 [.ref (ad 0)] (dw ad ca n wt k lb pl up on bo) (fun r w => r = zI ((k : Int)) ∧ w = dw ad ca n wt k lb pl up on bo) := by
  refine Ci.of (by decide) (Nat.le_of_ble_eq_true rfl) (by simp [Value.category]) ?_
  intro p e R s m args below meth c A Q ls hRf hRl F h hl ret
  have F : fx p m meth c s args cX0_length 1 RX0 A := F
  refine z_aload_n F hl dX0_length_0 rfl ?_
  refine dk_g2 F h dX0_length_1 ?_
  exact ret _ _ _ _ _ _ dX0_length_4 h ⟨rfl, rfl⟩
set_option maxHeartbeats 4000000 in
set_option maxRecDepth 100000 in
theorem mX0_dropFrame (l : Launch) (D : va_G) (ad : Nat → Nat) (ca : Nat → ClassId) (n : Nat) (wt : Nat → Int) (k : Nat) (lb : Nat → Nat) (pl : Int) (up : Nat → Int) (on : Nat → Int) (bo : Nat → Int)  (hn : n ≤ 6) : Ci l D (dt ca) yX0_dropFrame cX0_dropFrame 1 (some .int) 0 0 [.ref (ad 0)] (dw ad ca n wt k lb pl up on bo) (fun r w => r = zI (if n = 0 then -1 else (n : Int) - 1) ∧ w = dw ad ca ((n - 1 : Nat) : Int) wt k lb pl up on bo) := by
  refine Ci.of (by decide) (Nat.le_of_ble_eq_true rfl) (by simp [Value.category]) ?_
  intro p e R s m args below meth c A Q ls hRf hRl F h hl ret
  have F : fx p m meth c s args cX0_dropFrame 1 RX0 A := F
  refine z_aload_n F hl dX0_dropFrame_0 rfl ?_
  refine dk_g0 F h dX0_dropFrame_1 ?_
  refine z_if_ne F 9 dX0_dropFrame_4 (fun c4 => ?_) (fun c4 => ?_)
  · refine z_aload_n F hl dX0_dropFrame_9 rfl ?_
    refine z_dup F dX0_dropFrame_10 ?_
    refine dk_g0 F h dX0_dropFrame_11 ?_
    refine z_iconst F dX0_dropFrame_14 ?_
    refine z_isub F dX0_dropFrame_15 ?_
    refine dk_p0 F h dX0_dropFrame_16 (fun H locs h => ?_)
    refine z_aload_n F hl dX0_dropFrame_19 rfl ?_
    refine dk_g0 F h dX0_dropFrame_20 ?_
    refine ret _ _ _ _ _ _ dX0_dropFrame_23 h ⟨?_, ?_⟩
    · rw [if_neg (by omega)]
    · rw [show ((n - 1 : Nat) : Int) = (n : Int) - 1 by omega]
  · refine z_iconst F dX0_dropFrame_7 ?_
    refine ret _ _ _ _ _ _ dX0_dropFrame_8 h ⟨?_, ?_⟩
    · rw [if_pos (by omega)]
    · rw [show ((n - 1 : Nat) : Int) = (n : Int) by omega]
set_option maxHeartbeats 4000000 in
set_option maxRecDepth 100000 in
theorem mX0_rub (l : Launch) (D : va_G) (ad : Nat → Nat) (ca : Nat → ClassId) (n : Nat) (wt : Nat → Int) (k : Nat) (lb : Nat → Nat) (pl : Int) (up : Nat → Int) (on : Nat → Int) (bo : Nat → Int)  (hk : k ≤ 4) : Ci l D (dt ca) yX0_rub cX0_rub 1 (some .int) 0 0 [.ref (ad 0)] (dw ad ca n wt k lb pl up on bo) (fun r w => r = zI (rbR k lb) ∧ w = dw ad ca n wt ((k - 1 : Nat) : Int) lb pl up on bo) := by
  refine Ci.of (by decide) (Nat.le_of_ble_eq_true rfl) (by simp [Value.category]) ?_
  intro p e R s m args below meth c A Q ls hRf hRl F h hl ret
  have F : fx p m meth c s args cX0_rub 1 RX0 A := F
  refine z_aload_n F hl dX0_rub_0 rfl ?_
  refine dk_g2 F h dX0_rub_1 ?_
  refine z_if_ne F 9 dX0_rub_4 (fun c4 => ?_) (fun c4 => ?_)
  · refine z_aload_n F hl dX0_rub_9 rfl ?_
    refine z_dup F dX0_rub_10 ?_
    refine dk_g2 F h dX0_rub_11 ?_
    refine z_iconst F dX0_rub_14 ?_
    refine z_isub F dX0_rub_15 ?_
    refine dk_p2 F h dX0_rub_16 (fun H locs h => ?_)
    refine z_aload_n F hl dX0_rub_19 rfl ?_
    refine dk_g3 F h dX0_rub_20 ?_
    refine z_aload_n F hl dX0_rub_23 rfl ?_
    refine dk_g2 F h dX0_rub_24 ?_
    refine dk_l2 F h (k - 1) dX0_rub_27 ?_
    refine ret _ _ _ _ _ _ dX0_rub_28 h ⟨?_, ?_⟩
    · rw [rbR, if_neg (by omega)]
    · rw [show ((k - 1 : Nat) : Int) = (k : Int) - 1 by omega]
  · refine z_iconst F dX0_rub_7 ?_
    refine ret _ _ _ _ _ _ dX0_rub_8 h ⟨?_, ?_⟩
    · rw [rbR, if_pos (by omega)]
    · rw [show ((k - 1 : Nat) : Int) = (k : Int) by omega]
theorem rX0_rub {p : Program} {l : Launch} {e : Env} {R : Room} {s : State} {m : MethodId} {args : Array Value} {below : List Frame} {meth : Method} {c : Code} {H : Heap} {locs : List Loc} {Q : State → Prop} {cc : ByteArray} {pc : Nat} {ls : Array Slot} {rest : List Value} {nL : Nat} {A : Nat → Prop} {vs : List (Option Value)} {D : va_G} {ad : Nat → Nat} {ca : Nat → ClassId} {n : Nat} {wt : Nat → Int} {k : Nat} {lb : Nat → Nat} {pl : Int} {up : Nat → Int} {on : Nat → Int} {bo : Nat → Int} (F : fx p m meth c s args cc nL RX0 A) (h : wh D (dw ad ca n wt k lb pl up on bo) (dt ca) A s H locs) (hl : lz ls nL vs)  (hdg : decode cc pc = .ok (.invokevirtual 87, 3)) (kk : ∀ (H1 : Heap) (locs1 : List Loc), wh D (dw ad ca n wt ((k - 1 : Nat) : Int) lb pl up on bo) (dt ca) A s H1 locs1 → W p l e R s m args below meth c H1 locs1 0 0 Q (F0 m (pc + 3) ls (.int (zI (rbR k lb)) :: rest))) (hk : k ≤ 4 := by first | assumption | omega) (hR : 0 + 1 ≤ R.frames ∧ 8 + (1 + 11) + 0 ≤ R.locals := by omega) (hroom : (rest.map fun v => v.category).sum ≤ 8 := by exact Nat.le_of_ble_eq_true rfl) : W p l e R s m args below meth c H locs 0 0 Q (F0 m pc ls (.ref (ad 0) :: rest)) := by
  refine ci_call (ci := 0) (C := RX0) (T := TX0) (N := 8) (n := 0) F h (mX0_rub l D ad ca n wt k lb pl up on bo  hk) (lw_V q162 q80 q81 q19 q82) (by decide +kernel) rfl rfl rfl hR ⟨Nat.zero_le _, Nat.zero_le _⟩ hl rfl hroom hdg (fun r w1 H1 locs1 hp hw => ?_)
  obtain ⟨rfl, rfl⟩ := hp
  exact kk H1 locs1 hw
set_option maxHeartbeats 4000000 in
set_option maxRecDepth 100000 in
theorem mX0_write (l : Launch) (D : va_G) (ad : Nat → Nat) (ca : Nat → ClassId) (n : Nat) (wt : Nat → Int) (k : Nat) (lb : Nat → Nat) (pl : Int) (up : Nat → Int) (on : Nat → Int) (bo : Nat → Int) (x : Int) (hx : -2147483648 ≤ x ∧ x < 2147483648) (hk : k ≤ 4) : Ci l D (dt ca) yX0_write cX0_write 2 (some .int) 0 0 [.ref (ad 0), .int (zI x)] (dw ad ca n wt k lb pl up on bo) (fun r w => r = zI (wrR k x) ∧ w = dw ad ca n wt (wrK k x) (wrL k lb x) pl up on bo) := by
  refine Ci.of (by decide) (Nat.le_of_ble_eq_true rfl) (by simp [Value.category]) ?_
  intro p e R s m args below meth c A Q ls hRf hRl F h hl ret
  have F : fx p m meth c s args cX0_write 2 RX0 A := F
  refine z_iload_n F hl dX0_write_0 rfl ?_
  refine z_iconst F dX0_write_1 ?_
  refine z_icmp_lt F 10 dX0_write_2 (fun c2 => ?_) (fun c2 => ?_)
  · refine z_iconst F dX0_write_10 ?_
    refine ret _ _ _ _ _ _ dX0_write_11 h ⟨?_, ?_⟩
    · rw [wrR, if_neg (by omega)]
    · rw [wrK, if_neg (by omega), wrL, if_neg (by omega)]
  · refine z_iload_n F hl dX0_write_5 rfl ?_
    refine z_iconst F dX0_write_6 ?_
    refine z_icmp_le F 12 dX0_write_7 (fun c7 => ?_) (fun c7 => ?_)
    · refine z_aload_n F hl dX0_write_12 rfl ?_
      refine dk_g2 F h dX0_write_13 ?_
      refine z_iconst F dX0_write_16 ?_
      refine z_icmp_lt F 23 dX0_write_17 (fun c17 => ?_) (fun c17 => ?_)
      · refine z_aload_n F hl dX0_write_23 rfl ?_
        refine dk_g3 F h dX0_write_24 ?_
        refine z_aload_n F hl dX0_write_27 rfl ?_
        refine dk_g2 F h dX0_write_28 ?_
        refine z_iload_n F hl dX0_write_31 rfl ?_
        refine z_i2b F dX0_write_32 ?_
        refine dk_s2 F h k x.toNat dX0_write_33 (fun H locs h => ?_)
        refine z_aload_n F hl dX0_write_34 rfl ?_
        refine z_dup F dX0_write_35 ?_
        refine dk_g2 F h dX0_write_36 ?_
        refine z_iconst F dX0_write_39 ?_
        refine z_iadd F dX0_write_40 ?_
        refine dk_p2 F h dX0_write_41 (fun H locs h => ?_)
        refine z_aload_n F hl dX0_write_44 rfl ?_
        refine dk_g2 F h dX0_write_45 ?_
        refine ret _ _ _ _ _ _ dX0_write_48 h ⟨?_, ?_⟩
        · rw [wrR, if_pos (by omega), if_pos (by omega)]
        · rw [wrK, if_pos (by omega), wrL, if_pos (by omega)]; rfl
      · refine z_bipush F dX0_write_20 ?_
        refine ret _ _ _ _ _ _ dX0_write_22 h ⟨?_, ?_⟩
        · rw [wrR, if_pos (by omega), if_neg (by omega)]
        · rw [wrK, if_neg (by omega), wrL, if_neg (by omega)]
    · refine z_iconst F dX0_write_10 ?_
      refine ret _ _ _ _ _ _ dX0_write_11 h ⟨?_, ?_⟩
      · rw [wrR, if_neg (by omega)]
      · rw [wrK, if_neg (by omega), wrL, if_neg (by omega)]
theorem rX0_write {p : Program} {l : Launch} {e : Env} {R : Room} {s : State} {m : MethodId} {args : Array Value} {below : List Frame} {meth : Method} {c : Code} {H : Heap} {locs : List Loc} {Q : State → Prop} {cc : ByteArray} {pc : Nat} {ls : Array Slot} {rest : List Value} {nL : Nat} {A : Nat → Prop} {vs : List (Option Value)} {D : va_G} {ad : Nat → Nat} {ca : Nat → ClassId} {n : Nat} {wt : Nat → Int} {k : Nat} {lb : Nat → Nat} {pl : Int} {up : Nat → Int} {on : Nat → Int} {bo : Nat → Int} (F : fx p m meth c s args cc nL RX0 A) (h : wh D (dw ad ca n wt k lb pl up on bo) (dt ca) A s H locs) (hl : lz ls nL vs) (x : Int) {a0 : Int} (hdg : decode cc pc = .ok (.invokevirtual 81, 3)) (kk : ∀ (H1 : Heap) (locs1 : List Loc), wh D (dw ad ca n wt (wrK k x) (wrL k lb x) pl up on bo) (dt ca) A s H1 locs1 → W p l e R s m args below meth c H1 locs1 0 0 Q (F0 m (pc + 3) ls (.int (zI (wrR k x)) :: rest))) (hx : -2147483648 ≤ x ∧ x < 2147483648 := by first | assumption | omega) (hk : k ≤ 4 := by first | assumption | omega) (e0 : a0 = x := by first | rfl | omega) (hR : 0 + 1 ≤ R.frames ∧ 8 + (2 + 11) + 0 ≤ R.locals := by omega) (hroom : (rest.map fun v => v.category).sum ≤ 8 := by exact Nat.le_of_ble_eq_true rfl) : W p l e R s m args below meth c H locs 0 0 Q (F0 m pc ls (.int (zI a0) :: .ref (ad 0) :: rest)) := by
  rw [e0]
  refine ci_call (ci := 0) (C := RX0) (T := TX0) (N := 8) (n := 1) F h (mX0_write l D ad ca n wt k lb pl up on bo x hx hk) (lw_V q160 q76 q77 q19 q78) (by decide +kernel) rfl rfl rfl hR ⟨Nat.zero_le _, Nat.zero_le _⟩ hl rfl hroom hdg (fun r w1 H1 locs1 hp hw => ?_)
  obtain ⟨rfl, rfl⟩ := hp
  exact kk H1 locs1 hw
set_option maxHeartbeats 4000000 in
set_option maxRecDepth 100000 in
theorem mX0_weigh (l : Launch) (D : va_G) (ad : Nat → Nat) (ca : Nat → ClassId) (n : Nat) (wt : Nat → Int) (k : Nat) (lb : Nat → Nat) (pl : Int) (up : Nat → Int) (on : Nat → Int) (bo : Nat → Int) (x y z : Int) (hx : -2147483648 ≤ x ∧ x < 2147483648) (hy : -2147483648 ≤ y ∧ y < 2147483648) (hz : -2147483648 ≤ z ∧ z < 2147483648) (hn : n ≤ 6) : Ci l D (dt ca) yX0_weigh cX0_weigh 4 (some .boolean) 1 21 [.ref (ad 0), .int (zI x), .int (zI y), .int (zI z)] (dw ad ca n wt k lb pl up on bo) (fun r w => r = zI (bz (decide (wgC n x y z))) ∧ w = dw ad ca n (wgW n wt x y z) k lb pl up on bo) := by
  refine Cz.of (by decide) (Nat.le_of_ble_eq_true rfl) (by simp [Value.category]) ?_
  intro p e R s m args below meth c A Q ls hRf hRl F h hl ret
  have F : fx p m meth c s args cX0_weigh 4 RX0 A := F
  refine z_aload_n F hl dX0_weigh_0 rfl ?_
  refine z_iload_n F hl dX0_weigh_1 rfl ?_
  refine rX0_isFrame F h hl x dX0_weigh_2 (fun H locs h => ?_)
  refine z_if_eq F 25 dX0_weigh_5 (fun c5 => ?_) (fun c5 => ?_) (bz_in _)
  · have c5 := bz_d0 c5
    refine z_iconst F dX0_weigh_25 ?_
    refine ret _ _ _ _ _ _ dX0_weigh_26 h (Or.inl rfl) ⟨?_, ?_⟩
    · rw [← bz_df (P := wgC n x y z) (by omega)]
    · rw [wgW, if_neg (by omega)]
  · have c5 := bz_d1 c5
    refine z_iload_n F hl dX0_weigh_8 rfl ?_
    refine rX0_isMark F h hl y dX0_weigh_9 (fun H locs h => ?_)
    refine z_if_eq F 25 dX0_weigh_12 (fun c12 => ?_) (fun c12 => ?_) (bz_in _)
    · have c12 := bz_d0 c12
      refine z_iconst F dX0_weigh_25 ?_
      refine ret _ _ _ _ _ _ dX0_weigh_26 h (Or.inl rfl) ⟨?_, ?_⟩
      · rw [← bz_df (P := wgC n x y z) (by omega)]
      · rw [wgW, if_neg (by omega)]
    · have c12 := bz_d1 c12
      refine z_iload_n F hl dX0_weigh_15 rfl ?_
      refine z_if_lt F 25 dX0_weigh_16 (fun c16 => ?_) (fun c16 => ?_)
      · refine z_iconst F dX0_weigh_25 ?_
        refine ret _ _ _ _ _ _ dX0_weigh_26 h (Or.inl rfl) ⟨?_, ?_⟩
        · rw [← bz_df (P := wgC n x y z) (by omega)]
        · rw [wgW, if_neg (by omega)]
      · refine z_iload_n F hl dX0_weigh_19 rfl ?_
        refine z_bipush F dX0_weigh_20 ?_
        refine z_icmp_le F 27 dX0_weigh_22 (fun c22 => ?_) (fun c22 => ?_)
        · refine z_aload_n F hl dX0_weigh_27 rfl ?_
          refine dk_g1 F h dX0_weigh_28 ?_
          refine z_iload_n F hl dX0_weigh_31 rfl ?_
          refine z_iconst F dX0_weigh_32 ?_
          refine z_imul F dX0_weigh_33 ?_
          refine z_iload_n F hl dX0_weigh_34 rfl ?_
          refine z_iadd F dX0_weigh_35 ?_
          refine z_iload_n F hl dX0_weigh_36 rfl ?_
          refine z_i2b F dX0_weigh_37 ?_
          refine dk_s1 F h (4 * x.toNat + y.toNat) dX0_weigh_38 (fun H locs h => ?_)
          refine z_iconst F dX0_weigh_39 ?_
          refine ret _ _ _ _ _ _ dX0_weigh_40 h (Or.inr rfl) ⟨?_, ?_⟩
          · rw [← bz_dt (P := wgC n x y z) (by omega)]
          · rw [wgW, if_pos (by omega)]
        · refine z_iconst F dX0_weigh_25 ?_
          refine ret _ _ _ _ _ _ dX0_weigh_26 h (Or.inl rfl) ⟨?_, ?_⟩
          · rw [← bz_df (P := wgC n x y z) (by omega)]
          · rw [wgW, if_neg (by omega)]
end
section
/-! THE DESK: leads, frameSum, frame -/
set_option maxHeartbeats 4000000 in
set_option maxRecDepth 100000 in
theorem mX0_leads (l : Launch) (D : va_G) (ad : Nat → Nat) (ca : Nat → ClassId) (n : Nat) (wt : Nat → Int) (k : Nat) (lb : Nat → Nat) (pl : Int) (up : Nat → Int) (on : Nat → Int) (bo : Nat → Int) (f t : Nat) (hf : f < 9) (ht : t < 9) (hb : ∀ j, lb j ≤ 3) : Ci l D (dt ca) yX0_leads cX0_leads 3 (some .boolean) 1 21 [.ref (ad 0), .int (zI (f : Int)), .int (zI (t : Int))] (dw ad ca n wt k lb pl up on bo) (fun r w => r = zI (bz (ld lb f t)) ∧ w = dw ad ca n wt k lb pl up on bo) := by
  refine Cz.of (by decide) (Nat.le_of_ble_eq_true rfl) (by simp [Value.category]) ?_
  intro p e R s m args below meth c A Q ls hRf hRl F h hl ret
  have F : fx p m meth c s args cX0_leads 3 RX0 A := F
  have h1 := mk_le hb t
  have h2 := mk_le hb f
  refine z_iload_n F hl dX0_leads_0 rfl ?_
  refine z_iload_n F hl dX0_leads_1 rfl ?_
  refine z_icmp_eq F 12 dX0_leads_2 (fun c2 => ?_) (fun c2 => ?_)
  · refine z_iconst F dX0_leads_12 ?_
    exact ret _ _ _ _ _ _ dX0_leads_13 h (Or.inr rfl) ⟨by rw [← bz_t (b := ld lb f t)]; unfold ld; exact decide_eq_true (Or.inl (by omega)), rfl⟩
  · refine z_iload_n F hl dX0_leads_5 rfl ?_
    refine z_iload_n F hl dX0_leads_6 rfl ?_
    refine z_iconst F dX0_leads_7 ?_
    refine z_iadd F dX0_leads_8 ?_
    refine z_icmp_ne F 14 dX0_leads_9 (fun c9 => ?_) (fun c9 => ?_)
    · refine z_joinH h 46 (bz (ld lb f t)) (fun J => ?_) (fun H locs h => ?_)
      · refine z_iload_n F hl dX0_leads_14 rfl ?_
        refine z_iload_n F hl dX0_leads_15 rfl ?_
        refine z_iconst F dX0_leads_16 ?_
        refine z_iadd F dX0_leads_17 ?_
        refine z_icmp_ne F 45 dX0_leads_18 (fun c18 => ?_) (fun c18 => ?_)
        · refine z_iconst F dX0_leads_45 ?_
          refine J _ _ _ (bz_f ?_) h
          unfold ld; exact decide_eq_false (by omega)
        · refine z_iload_n F hl dX0_leads_21 rfl ?_
          refine z_iconst F dX0_leads_22 ?_
          refine lv_iand F.1 F.2.1 dX0_leads_23 ?_
          rw [show zI ((t : Nat) : Int) &&& zI 1 = zI ((t % 2 ^ 1 : Nat) : Int) from zI_and (b := 1) (by omega) 1 (by decide)]
          refine z_iconst F dX0_leads_24 ?_
          refine z_icmp_ne F 45 dX0_leads_25 (fun c25 => ?_) (fun c25 => ?_)
          · refine z_iconst F dX0_leads_45 ?_
            refine J _ _ _ (bz_f ?_) h
            unfold ld; exact decide_eq_false (by omega)
          · refine z_aload_n F hl dX0_leads_28 rfl ?_
            refine z_iload_n F hl dX0_leads_29 rfl ?_
            refine rX0_markAt F h hl t dX0_leads_30 (fun H locs h => ?_)
            refine z_aload_n F hl dX0_leads_33 rfl ?_
            refine z_iload_n F hl dX0_leads_34 rfl ?_
            refine rX0_markAt F h hl f dX0_leads_35 (fun H locs h => ?_)
            refine z_icmp_eq F 45 dX0_leads_38 (fun c38 => ?_) (fun c38 => ?_)
            · refine z_iconst F dX0_leads_45 ?_
              refine J _ _ _ (bz_f ?_) h
              unfold ld; exact decide_eq_false (by omega)
            · refine z_iconst F dX0_leads_41 ?_
              refine z_goto F 46 dX0_leads_42 ?_
              refine J _ _ _ (bz_t ?_) h
              unfold ld; exact decide_eq_true (Or.inr (Or.inr ⟨by omega, by omega, by omega⟩))
      · exact ret _ _ _ _ _ _ dX0_leads_46 h (bz_01 _) ⟨rfl, rfl⟩
    · refine z_iconst F dX0_leads_12 ?_
      exact ret _ _ _ _ _ _ dX0_leads_13 h (Or.inr rfl) ⟨by rw [← bz_t (b := ld lb f t)]; unfold ld; exact decide_eq_true (Or.inr (Or.inl (by omega))), rfl⟩
theorem rX0_leads {p : Program} {l : Launch} {e : Env} {R : Room} {s : State} {m : MethodId} {args : Array Value} {below : List Frame} {meth : Method} {c : Code} {H : Heap} {locs : List Loc} {Q : State → Prop} {cc : ByteArray} {pc : Nat} {ls : Array Slot} {rest : List Value} {nL : Nat} {A : Nat → Prop} {vs : List (Option Value)} {D : va_G} {ad : Nat → Nat} {ca : Nat → ClassId} {n : Nat} {wt : Nat → Int} {k : Nat} {lb : Nat → Nat} {pl : Int} {up : Nat → Int} {on : Nat → Int} {bo : Nat → Int} (F : fx p m meth c s args cc nL RX0 A) (h : wh D (dw ad ca n wt k lb pl up on bo) (dt ca) A s H locs) (hl : lz ls nL vs) (f t : Nat) {a0 : Int} {a1 : Int} (hdg : decode cc pc = .ok (.invokevirtual 48, 3)) (kk : ∀ (H1 : Heap) (locs1 : List Loc), wh D (dw ad ca n wt k lb pl up on bo) (dt ca) A s H1 locs1 → W p l e R s m args below meth c H1 locs1 0 0 Q (F0 m (pc + 3) ls (.int (zI (bz (ld lb f t))) :: rest))) (hf : f < 9 := by first | assumption | omega) (ht : t < 9 := by first | assumption | omega) (hb : ∀ j, lb j ≤ 3 := by first | assumption | omega) (e0 : a0 = (f : Int) := by first | rfl | omega) (e1 : a1 = (t : Int) := by first | rfl | omega) (hR : 1 + 1 ≤ R.frames ∧ 8 + (3 + 11) + 21 ≤ R.locals := by omega) (hroom : (rest.map fun v => v.category).sum ≤ 8 := by exact Nat.le_of_ble_eq_true rfl) : W p l e R s m args below meth c H locs 0 0 Q (F0 m pc ls (.int (zI a1) :: .int (zI a0) :: .ref (ad 0) :: rest)) := by
  rw [e0]
  rw [e1]
  refine ci_call (ci := 0) (C := RX0) (T := TX0) (N := 8) (n := 2) F h (mX0_leads l D ad ca n wt k lb pl up on bo f t hf ht hb) (lw_V q103 q105 qs3 q19 q106) (by decide +kernel) rfl rfl rfl hR ⟨Nat.zero_le _, Nat.zero_le _⟩ hl rfl hroom hdg (fun r w1 H1 locs1 hp hw => ?_)
  obtain ⟨rfl, rfl⟩ := hp
  exact kk H1 locs1 hw
set_option maxHeartbeats 4000000 in
set_option maxRecDepth 100000 in
theorem mX0_frameSum (l : Launch) (D : va_G) (ad : Nat → Nat) (ca : Nat → ClassId) (n : Nat) (wt : Nat → Int) (k : Nat) (lb : Nat → Nat) (pl : Int) (up : Nat → Int) (on : Nat → Int) (bo : Nat → Int) (t : Nat) (ht : t < 6) : Ci l D (dt ca) yX0_frameSum cX0_frameSum 4 (some .int) 0 0 [.ref (ad 0), .int (zI (t : Int))] (dw ad ca n wt k lb pl up on bo) (fun r w => r = zI (fsm wt t) ∧ w = dw ad ca n wt k lb pl up on bo) := by
  refine Ci.of (by decide) (Nat.le_of_ble_eq_true rfl) (by simp [Value.category]) ?_
  intro p e R s m args below meth c A Q ls hRf hRl F h hl ret
  have F : fx p m meth c s args cX0_frameSum 4 RX0 A := F
  refine z_iconst F dX0_frameSum_0 ?_
  refine z_istore_n F hl dX0_frameSum_1 (fun ls hl => ?_)
  refine z_iconst F dX0_frameSum_2 ?_
  refine z_istore_n F hl dX0_frameSum_3 (fun ls hl => ?_)
  have L : ∀ (d i : Nat) (ls : Array Slot), i + d = 4 → lz ls 4 [some (.ref (ad 0)), some (.int (zI t)), some (.int (zI (sm (fun q => wt (4 * t + q)) i))), some (.int (zI i))] → W p l e R s m args below meth c s.heap [] 0 0 Q (F0 m 4 ls []) := by
    intro d
    induction d with
    | zero =>
      intro i ls hi hl
      refine z_iload_n F hl dX0_frameSum_4 rfl ?_
      refine z_iconst F dX0_frameSum_5 ?_
      refine z_icmp_ge F 28 dX0_frameSum_6 (fun c6 => ?_) (fun c6 => ?_)
      · refine z_iload_n F hl dX0_frameSum_28 rfl ?_
        refine ret _ _ _ _ _ _ dX0_frameSum_29 h ⟨?_, rfl⟩
        obtain rfl : i = 4 := by omega
        simp [sm, fsm]
      · exact absurd c6 (by omega)
    | succ d ih =>
      intro i ls hi hl
      refine z_iload_n F hl dX0_frameSum_4 rfl ?_
      refine z_iconst F dX0_frameSum_5 ?_
      refine z_icmp_ge F 28 dX0_frameSum_6 (fun c6 => ?_) (fun c6 => ?_)
      · exact absurd c6 (by omega)
      · refine z_iload_n F hl dX0_frameSum_9 rfl ?_
        refine z_aload_n F hl dX0_frameSum_10 rfl ?_
        refine dk_g1 F h dX0_frameSum_11 ?_
        refine z_iload_n F hl dX0_frameSum_14 rfl ?_
        refine z_iconst F dX0_frameSum_15 ?_
        refine z_imul F dX0_frameSum_16 ?_
        refine z_iload_n F hl dX0_frameSum_17 rfl ?_
        refine z_iadd F dX0_frameSum_18 ?_
        refine dk_l1 F h (4 * t + i) dX0_frameSum_19 ?_
        refine z_iadd F dX0_frameSum_20 ?_
        refine z_istore_n F hl dX0_frameSum_21 (fun ls hl => ?_)
        refine z_iinc F hl ((i + 1 : Nat) : Int) dX0_frameSum_22 rfl (fun ls hl => ?_)
        refine z_goto F 4 dX0_frameSum_25 ?_
        exact ih (i + 1) ls (by omega) hl
  exact L 4 0 ls rfl hl
theorem rX0_frameSum {p : Program} {l : Launch} {e : Env} {R : Room} {s : State} {m : MethodId} {args : Array Value} {below : List Frame} {meth : Method} {c : Code} {H : Heap} {locs : List Loc} {Q : State → Prop} {cc : ByteArray} {pc : Nat} {ls : Array Slot} {rest : List Value} {nL : Nat} {A : Nat → Prop} {vs : List (Option Value)} {D : va_G} {ad : Nat → Nat} {ca : Nat → ClassId} {n : Nat} {wt : Nat → Int} {k : Nat} {lb : Nat → Nat} {pl : Int} {up : Nat → Int} {on : Nat → Int} {bo : Nat → Int} (F : fx p m meth c s args cc nL RX0 A) (h : wh D (dw ad ca n wt k lb pl up on bo) (dt ca) A s H locs) (hl : lz ls nL vs) (t : Nat) {a0 : Int} (hdg : decode cc pc = .ok (.invokevirtual 78, 3)) (kk : ∀ (H1 : Heap) (locs1 : List Loc), wh D (dw ad ca n wt k lb pl up on bo) (dt ca) A s H1 locs1 → W p l e R s m args below meth c H1 locs1 0 0 Q (F0 m (pc + 3) ls (.int (zI (fsm wt t)) :: rest))) (ht : t < 6 := by first | assumption | omega) (e0 : a0 = (t : Int) := by first | rfl | omega) (hR : 0 + 1 ≤ R.frames ∧ 8 + (4 + 11) + 0 ≤ R.locals := by omega) (hroom : (rest.map fun v => v.category).sum ≤ 8 := by exact Nat.le_of_ble_eq_true rfl) : W p l e R s m args below meth c H locs 0 0 Q (F0 m pc ls (.int (zI a0) :: .ref (ad 0) :: rest)) := by
  rw [e0]
  refine ci_call (ci := 0) (C := RX0) (T := TX0) (N := 8) (n := 1) F h (mX0_frameSum l D ad ca n wt k lb pl up on bo t ht) (lw_V q151 q153 qs10 q19 q154) (by decide +kernel) rfl rfl rfl hR ⟨Nat.zero_le _, Nat.zero_le _⟩ hl rfl hroom hdg (fun r w1 H1 locs1 hp hw => ?_)
  obtain ⟨rfl, rfl⟩ := hp
  exact kk H1 locs1 hw
set_option maxHeartbeats 4000000 in
set_option maxRecDepth 100000 in
theorem mX0_frame (l : Launch) (D : va_G) (ad : Nat → Nat) (ca : Nat → ClassId) (n : Nat) (wt : Nat → Int) (k : Nat) (lb : Nat → Nat) (pl : Int) (up : Nat → Int) (on : Nat → Int) (bo : Nat → Int) (x : Int) (hx : -2147483648 ≤ x ∧ x < 2147483648) (hn : n ≤ 6) : Ci l D (dt ca) yX0_frame cX0_frame 4 (some .int) 0 0 [.ref (ad 0), .int (zI x)] (dw ad ca n wt k lb pl up on bo) (fun r w => r = zI (frR n x) ∧ w = dw ad ca (frN n x) (frW n wt x) k lb pl up on bo) := by
  refine Ci.of (by decide) (Nat.le_of_ble_eq_true rfl) (by simp [Value.category]) ?_
  intro p e R s m args below meth c A Q ls hRf hRl F h hl ret
  have F : fx p m meth c s args cX0_frame 4 RX0 A := F
  refine z_iload_n F hl dX0_frame_0 rfl ?_
  refine z_if_lt F 11 dX0_frame_1 (fun c1 => ?_) (fun c1 => ?_)
  · refine z_iconst F dX0_frame_11 ?_
    refine ret _ _ _ _ _ _ dX0_frame_12 h ⟨?_, ?_⟩
    · rw [frR, if_neg (by omega)]
    · rw [frN, if_neg (by omega), frW, if_neg (by omega)]
  · refine z_iload_n F hl dX0_frame_4 rfl ?_
    refine z_sipush F dX0_frame_5 ?_
    refine z_icmp_le F 13 dX0_frame_8 (fun c8 => ?_) (fun c8 => ?_)
    · refine z_iload_n F hl dX0_frame_13 rfl ?_
      refine z_istore_n F hl dX0_frame_14 (fun ls hl => ?_)
      refine z_iconst F dX0_frame_15 ?_
      refine z_istore_n F hl dX0_frame_16 (fun ls hl => ?_)
      have St : ∀ (i : Nat) (y : Int) (ls : Array Slot), i < 4 → (0 ≤ y ∧ y ≤ 8888) → (y % 10 = 9 → ¬ okd x) → lz ls 4 [some (.ref (ad 0)), some (.int (zI x)), some (.int (zI y)), some (.int (zI i))] → (y % 10 ≠ 9 → ∀ ls : Array Slot, lz ls 4 [some (.ref (ad 0)), some (.int (zI x)), some (.int (zI (y / 10))), some (.int (zI ((i + 1 : Nat) : Int)))] → W p l e R s m args below meth c s.heap [] 0 0 Q (F0 m 17 ls [])) → W p l e R s m args below meth c s.heap [] 0 0 Q (F0 m 17 ls []) := by
        intro i y ls hi hy h9 hl kont
        refine z_iload_n F hl dX0_frame_17 rfl ?_
        refine z_iconst F dX0_frame_18 ?_
        refine z_icmp_ge F 44 dX0_frame_19 (fun c19 => ?_) (fun c19 => ?_)
        · exact absurd c19 (by omega)
        · refine z_iload_n F hl dX0_frame_22 rfl ?_
          refine z_bipush F dX0_frame_23 ?_
          refine z_irem F dX0_frame_25 ?_
          refine z_bipush F dX0_frame_26 ?_
          refine z_icmp_ne F 33 dX0_frame_28 (fun c28 => ?_) (fun c28 => ?_)
          · refine z_iload_n F hl dX0_frame_33 rfl ?_
            refine z_bipush F dX0_frame_34 ?_
            refine z_idiv F dX0_frame_36 ?_
            refine z_istore_n F hl dX0_frame_37 (fun ls hl => ?_)
            refine z_iinc F hl ((i + 1 : Nat) : Int) dX0_frame_38 rfl (fun ls hl => ?_)
            refine z_goto F 17 dX0_frame_41 ?_
            exact kont (by omega) ls hl
          · have hk := h9 c28
            refine z_iconst F dX0_frame_31 ?_
            refine ret _ _ _ _ _ _ dX0_frame_32 h ⟨?_, ?_⟩
            · rw [frR, if_neg hk]
            · rw [frN, if_neg (fun q => hk q.1), frW, if_neg (fun q => hk q.1)]
      refine St 0 x ls (by omega) (by omega) (by omega) hl (fun g0 ls hl => ?_)
      refine St 1 (x / 10) ls (by omega) (by omega) (by omega) hl (fun g1 ls hl => ?_)
      refine St 2 (x / 10 / 10) ls (by omega) (by omega) (by omega) hl (fun g2 ls hl => ?_)
      refine St 3 (x / 10 / 10 / 10) ls (by omega) (by omega) (by omega) hl (fun g3 ls hl => ?_)
      have hok : okd x := by omega
      refine z_iload_n F hl dX0_frame_17 rfl ?_
      refine z_iconst F dX0_frame_18 ?_
      refine z_icmp_ge F 44 dX0_frame_19 (fun c19 => ?_) (fun c19 => ?_)
      · refine z_aload_n F hl dX0_frame_44 rfl ?_
        refine dk_g0 F h dX0_frame_45 ?_
        refine z_bipush F dX0_frame_48 ?_
        refine z_icmp_lt F 56 dX0_frame_50 (fun c50 => ?_) (fun c50 => ?_)
        · refine z_iload_n F hl dX0_frame_56 rfl ?_
          refine z_istore_n F hl dX0_frame_57 (fun ls hl => ?_)
          refine z_iconst F dX0_frame_58 ?_
          refine z_istore_n F hl dX0_frame_59 (fun ls hl => ?_)
          have S2 : ∀ (i : Nat) (y : Int) (wt : Nat → Int) (H : Heap) (locs : List Loc) (ls : Array Slot), i < 4 → (0 ≤ y ∧ y ≤ 8888) → wh D (dw ad ca n wt k lb pl up on bo) (dt ca) A s H locs → lz ls 4 [some (.ref (ad 0)), some (.int (zI x)), some (.int (zI y)), some (.int (zI i))] → (∀ (H : Heap) (locs : List Loc) (ls : Array Slot), wh D (dw ad ca n (up1 wt (4 * n + i) (y % 10)) k lb pl up on bo) (dt ca) A s H locs → lz ls 4 [some (.ref (ad 0)), some (.int (zI x)), some (.int (zI (y / 10))), some (.int (zI ((i + 1 : Nat) : Int)))] → W p l e R s m args below meth c H locs 0 0 Q (F0 m 60 ls [])) → W p l e R s m args below meth c H locs 0 0 Q (F0 m 60 ls []) := by
            intro i y wt H locs ls hi hy h hl kont
            refine z_iload_n F hl dX0_frame_60 rfl ?_
            refine z_iconst F dX0_frame_61 ?_
            refine z_icmp_ge F 94 dX0_frame_62 (fun c62 => ?_) (fun c62 => ?_)
            · exact absurd c62 (by omega)
            · refine z_aload_n F hl dX0_frame_65 rfl ?_
              refine dk_g1 F h dX0_frame_66 ?_
              refine z_aload_n F hl dX0_frame_69 rfl ?_
              refine dk_g0 F h dX0_frame_70 ?_
              refine z_iconst F dX0_frame_73 ?_
              refine z_imul F dX0_frame_74 ?_
              refine z_iload_n F hl dX0_frame_75 rfl ?_
              refine z_iadd F dX0_frame_76 ?_
              refine z_iload_n F hl dX0_frame_77 rfl ?_
              refine z_bipush F dX0_frame_78 ?_
              refine z_irem F dX0_frame_80 ?_
              refine z_i2b F dX0_frame_81 ?_
              refine dk_s1 F h (4 * n + i) dX0_frame_82 (fun H locs h => ?_)
              refine z_iload_n F hl dX0_frame_83 rfl ?_
              refine z_bipush F dX0_frame_84 ?_
              refine z_idiv F dX0_frame_86 ?_
              refine z_istore_n F hl dX0_frame_87 (fun ls hl => ?_)
              refine z_iinc F hl ((i + 1 : Nat) : Int) dX0_frame_88 rfl (fun ls hl => ?_)
              refine z_goto F 60 dX0_frame_91 ?_
              exact kont H locs ls h hl
          refine S2 0 x wt _ _ ls (by omega) (by omega) h (hl.keep [true, true, true, true]) (fun H locs ls h hl => ?_)
          refine S2 1 (x / 10) _ H locs ls (by omega) (by omega) h hl (fun H locs ls h hl => ?_)
          refine S2 2 (x / 10 / 10) _ H locs ls (by omega) (by omega) h hl (fun H locs ls h hl => ?_)
          refine S2 3 (x / 10 / 10 / 10) _ H locs ls (by omega) (by omega) h hl (fun H locs ls h hl => ?_)
          refine z_iload_n F hl dX0_frame_60 rfl ?_
          refine z_iconst F dX0_frame_61 ?_
          refine z_icmp_ge F 94 dX0_frame_62 (fun c62 => ?_) (fun c62 => ?_)
          · refine z_aload_n F hl dX0_frame_94 rfl ?_
            refine z_dup F dX0_frame_95 ?_
            refine dk_g0 F h dX0_frame_96 ?_
            refine z_iconst F dX0_frame_99 ?_
            refine z_iadd F dX0_frame_100 ?_
            refine dk_p0 F h dX0_frame_101 (fun H locs h => ?_)
            refine z_aload_n F hl dX0_frame_104 rfl ?_
            refine dk_g0 F h dX0_frame_105 ?_
            refine z_iconst F dX0_frame_108 ?_
            refine z_isub F dX0_frame_109 ?_
            refine ret _ _ _ _ _ _ dX0_frame_110 h ⟨?_, ?_⟩
            · rw [frR, if_pos hok, if_pos (by omega), show (n : Int) + 1 - 1 = (n : Int) by omega]
            · rw [frN, if_pos ⟨hok, by omega⟩, frW, if_pos ⟨hok, by omega⟩, show x / 10 / 10 / 10 = x / 1000 by omega, show x / 10 / 10 = x / 100 by omega]; rfl
          · exact absurd c62 (by omega)
        · refine z_bipush F dX0_frame_53 ?_
          refine ret _ _ _ _ _ _ dX0_frame_55 h ⟨?_, ?_⟩
          · rw [frR, if_pos hok, if_neg (by omega)]
          · rw [frN, if_neg (by omega), frW, if_neg (by omega)]
      · exact absurd c19 (by omega)
    · refine z_iconst F dX0_frame_11 ?_
      refine ret _ _ _ _ _ _ dX0_frame_12 h ⟨?_, ?_⟩
      · rw [frR, if_neg (by omega)]
      · rw [frN, if_neg (by omega), frW, if_neg (by omega)]
end
section
/-! THE DESK: carryOn -/
set_option maxHeartbeats 4000000 in
set_option maxRecDepth 100000 in
theorem mX0_carryOn (l : Launch) (D : va_G) (ad : Nat → Nat) (ca : Nat → ClassId) (n : Nat) (wt : Nat → Int) (k : Nat) (lb : Nat → Nat) (pl : Int) (up : Nat → Int) (on : Nat → Int) (bo : Nat → Int)  (hn : n ≤ 6) (hk : k ≤ 4) (hb : ∀ j, lb j ≤ 3) (hp : pl = 0 ∨ pl = 1) : Cv l D (dt ca) yX0_carryOn cX0_carryOn 6 2 43 [.ref (ad 0)] (dw ad ca n wt k lb pl up on bo) (fun w => ∃ (up' : Nat → Int), w = dw ad ca n wt k lb pl up' on bo ∧ (∀ t s, t < n → s ≤ 2 * k → up' (9 * t + s) = Vf (ew pl wt) lb (t + 1) s)) := by
  refine Cv.of (by decide) (Nat.le_of_ble_eq_true rfl) (by simp [Value.category]) ?_
  intro p e R s m args below meth c A Q ls hRf hRl F h hl ret
  have F : fx p m meth c s args cX0_carryOn 6 RX0 A := F
  refine z_iconst F dX0_carryOn_0 ?_
  refine z_istore_n F hl dX0_carryOn_1 (fun ls hl => ?_)
  have outer : ∀ (d t : Nat) (up : Nat → Int) (H : Heap) (locs : List Loc) (ls : Array Slot), t + d = n → (∀ t' s', t' < t → s' ≤ 2 * k → up (9 * t' + s') = Vf (ew pl wt) lb (t' + 1) s') → wh D (dw ad ca n wt k lb pl up on bo) (dt ca) A s H locs → lz ls 6 [some (.ref (ad 0)), some (.int (zI t)), none, none, none, none] → W p l e R s m args below meth c H locs 0 0 Q (F0 m 2 ls []) := by
    intro d
    induction d with
    | zero =>
      intro t up H locs ls ht hI h hl
      refine z_iload_n F hl dX0_carryOn_2 rfl ?_
      refine z_aload_n F hl dX0_carryOn_3 rfl ?_
      refine dk_g0 F h dX0_carryOn_4 ?_
      refine z_icmp_ge F 145 dX0_carryOn_7 (fun c7 => ?_) (fun c7 => ?_)
      · exact ret _ _ _ _ _ dX0_carryOn_145 h ⟨up, rfl, fun t' s' h1 h2 => hI t' s' (by omega) h2⟩
      · exact absurd c7 (by omega)
    | succ d ih =>
      intro t up H locs ls ht hI h hl
      refine z_iload_n F hl dX0_carryOn_2 rfl ?_
      refine z_aload_n F hl dX0_carryOn_3 rfl ?_
      refine dk_g0 F h dX0_carryOn_4 ?_
      refine z_icmp_ge F 145 dX0_carryOn_7 (fun c7 => ?_) (fun c7 => ?_)
      · exact absurd c7 (by omega)
      · refine z_iconst F dX0_carryOn_10 ?_
        refine z_istore_n F hl dX0_carryOn_11 (fun ls hl => ?_)
        have inner : ∀ (d2 j : Nat) (up : Nat → Int) (H : Heap) (locs : List Loc) (ls : Array Slot), j + d2 = 2 * k + 1 → (∀ t' s', t' < t → s' ≤ 2 * k → up (9 * t' + s') = Vf (ew pl wt) lb (t' + 1) s') → (∀ s', s' < j → up (9 * t + s') = Vf (ew pl wt) lb (t + 1) s') → wh D (dw ad ca n wt k lb pl up on bo) (dt ca) A s H locs → lz ls 6 [some (.ref (ad 0)), some (.int (zI t)), some (.int (zI j)), none, none, none] → W p l e R s m args below meth c H locs 0 0 Q (F0 m 12 ls []) := by
          intro d2
          induction d2 with
          | zero =>
            intro j up H locs ls hj hI hJ h hl
            refine z_iload_n F hl dX0_carryOn_12 rfl ?_
            refine z_iconst F dX0_carryOn_13 ?_
            refine z_aload_n F hl dX0_carryOn_14 rfl ?_
            refine dk_g2 F h dX0_carryOn_15 ?_
            refine z_imul F dX0_carryOn_18 ?_
            refine z_icmp_gt F 139 dX0_carryOn_19 (fun c19 => ?_) (fun c19 => ?_)
            · refine z_iinc F hl ((t + 1 : Nat) : Int) dX0_carryOn_139 rfl (fun ls hl => ?_)
              refine z_goto F 2 dX0_carryOn_142 ?_
              refine ih (t + 1) up H locs ls (by omega) (fun t' s' h1 h2 => ?_) h (hl.keep [true, true, false, false, false, false])
              rcases Nat.lt_or_ge t' t with q | q
              · exact hI t' s' q h2
              · obtain rfl : t' = t := by omega
                exact hJ s' (by omega)
            · exact absurd c19 (by omega)
          | succ d2 ih2 =>
            intro j up H locs ls hj hI hJ h hl
            have hmk := mk_le hb j
            refine z_iload_n F hl dX0_carryOn_12 rfl ?_
            refine z_iconst F dX0_carryOn_13 ?_
            refine z_aload_n F hl dX0_carryOn_14 rfl ?_
            refine dk_g2 F h dX0_carryOn_15 ?_
            refine z_imul F dX0_carryOn_18 ?_
            refine z_icmp_gt F 139 dX0_carryOn_19 (fun c19 => ?_) (fun c19 => ?_)
            · exact absurd c19 (by omega)
            · refine z_join 36 (bz (decide (t = 0 ∧ j ≤ 1))) (fun J => ?_) ?_
              · refine z_iload_n F hl dX0_carryOn_22 rfl ?_
                refine z_if_ne F 35 dX0_carryOn_23 (fun c23 => ?_) (fun c23 => ?_)
                · refine z_iconst F dX0_carryOn_35 ?_
                  exact J _ (bz_df (by omega))
                · refine z_iload_n F hl dX0_carryOn_26 rfl ?_
                  refine z_iconst F dX0_carryOn_27 ?_
                  refine z_icmp_gt F 35 dX0_carryOn_28 (fun c28 => ?_) (fun c28 => ?_)
                  · refine z_iconst F dX0_carryOn_35 ?_
                    exact J _ (bz_df (by omega))
                  · refine z_iconst F dX0_carryOn_31 ?_
                    refine z_goto F 36 dX0_carryOn_32 ?_
                    exact J _ (bz_dt (by omega))
              · refine z_istore_n F hl dX0_carryOn_36 (fun ls hl => ?_)
                refine z_iload_n F hl dX0_carryOn_37 rfl ?_
                refine z_iconst F dX0_carryOn_38 ?_
                refine z_isub F dX0_carryOn_39 ?_
                refine z_istore F hl dX0_carryOn_40 (fun ls hl => ?_)
                have st : ∀ (r x : Int) (H : Heap) (locs : List Loc) (ls : Array Slot), ((j : Int) - 2 ≤ r ∧ r ≤ j) → wh D (dw ad ca n wt k lb pl up on bo) (dt ca) A s H locs → lz ls 6 [some (.ref (ad 0)), some (.int (zI t)), some (.int (zI j)), some (.int (zI x)), some (.int (zI r)), none] → (∀ (H : Heap) (locs : List Loc) (ls : Array Slot), wh D (dw ad ca n wt k lb pl up on bo) (dt ca) A s H locs → lz ls 6 [some (.ref (ad 0)), some (.int (zI t)), some (.int (zI j)), some (.int (zI (x + cmt up lb t j r))), some (.int (zI (r + 1))), none] → W p l e R s m args below meth c H locs 0 0 Q (F0 m 42 ls [])) → W p l e R s m args below meth c H locs 0 0 Q (F0 m 42 ls []) := by
                  intro r x H locs ls hr h hl kont
                  refine z_iload F hl dX0_carryOn_42 rfl ?_
                  refine z_iload_n F hl dX0_carryOn_44 rfl ?_
                  refine z_icmp_gt F 106 dX0_carryOn_45 (fun c45 => ?_) (fun c45 => ?_)
                  · exact absurd c45 (by omega)
                  · refine z_joinH h 72 (bz (decide ((0 < t ∧ 0 ≤ r) ∧ ld lb r.toNat j = true))) (fun J => ?_) (fun H locs h => ?_)
                    · refine z_iload_n F hl dX0_carryOn_48 rfl ?_
                      refine z_if_le F 71 dX0_carryOn_49 (fun c49 => ?_) (fun c49 => ?_)
                      · refine z_iconst F dX0_carryOn_71 ?_
                        exact J _ _ _ (bz_df (by omega)) h
                      · refine z_iload F hl dX0_carryOn_52 rfl ?_
                        refine z_if_lt F 71 dX0_carryOn_54 (fun c54 => ?_) (fun c54 => ?_)
                        · refine z_iconst F dX0_carryOn_71 ?_
                          exact J _ _ _ (bz_df (by omega)) h
                        · refine z_aload_n F hl dX0_carryOn_57 rfl ?_
                          refine z_iload F hl dX0_carryOn_58 rfl ?_
                          refine z_iload_n F hl dX0_carryOn_60 rfl ?_
                          refine rX0_leads F h hl r.toNat j dX0_carryOn_61 (fun H locs h => ?_)
                          refine z_if_eq F 71 dX0_carryOn_64 (fun c64 => ?_) (fun c64 => ?_) (bz_in _)
                          · have c64 := bz_e0 c64
                            refine z_iconst F dX0_carryOn_71 ?_
                            exact J _ _ _ (bz_df (by rw [c64]; intro q; exact absurd q.2 (by decide))) h
                          · have c64 := bz_n0 c64
                            refine z_iconst F dX0_carryOn_67 ?_
                            refine z_goto F 72 dX0_carryOn_68 ?_
                            exact J _ _ _ (bz_dt ⟨by omega, c64⟩) h
                    · refine z_istore F hl dX0_carryOn_72 (fun ls hl => ?_)
                      refine z_iload_n F hl dX0_carryOn_74 rfl ?_
                      refine z_join 98 (cmt up lb t j r) (fun J => ?_) ?_
                      · refine z_iload F hl dX0_carryOn_75 rfl ?_
                        refine z_if_eq F 97 dX0_carryOn_77 (fun c77 => ?_) (fun c77 => ?_) (bz_in _)
                        · have c77 := bz_d0 c77
                          refine z_iconst F dX0_carryOn_97 ?_
                          refine J _ ?_
                          rw [cmt, if_neg c77]
                        · have c77 := bz_d1 c77
                          refine z_aload_n F hl dX0_carryOn_80 rfl ?_
                          refine dk_g5 F h dX0_carryOn_81 ?_
                          refine z_iload_n F hl dX0_carryOn_84 rfl ?_
                          refine z_iconst F dX0_carryOn_85 ?_
                          refine z_isub F dX0_carryOn_86 ?_
                          refine z_bipush F dX0_carryOn_87 ?_
                          refine z_imul F dX0_carryOn_89 ?_
                          refine z_iload F hl dX0_carryOn_90 rfl ?_
                          refine z_iadd F dX0_carryOn_92 ?_
                          refine dk_l3 F h (9 * (t - 1) + r.toNat) dX0_carryOn_93 ?_
                          refine z_goto F 98 dX0_carryOn_94 ?_
                          refine J _ ?_
                          rw [cmt, if_pos c77]
                      · refine z_iadd F dX0_carryOn_98 ?_
                        refine z_istore_n F hl dX0_carryOn_99 (fun ls hl => ?_)
                        refine z_iinc F hl (r + 1) dX0_carryOn_100 rfl (fun ls hl => ?_)
                        refine z_goto F 42 dX0_carryOn_103 ?_
                        exact kont H locs ls h (hl.keep [true, true, true, true, true, false])
                refine st ((j : Int) - 2) _ H locs ls (by omega) h (hl.keep [true, true, true, true, true, false]) (fun H locs ls h hl => ?_)
                refine st ((j : Int) - 2 + 1) _ H locs ls (by omega) h hl (fun H locs ls h hl => ?_)
                refine st ((j : Int) - 2 + 1 + 1) _ H locs ls (by omega) h hl (fun H locs ls h hl => ?_)
                rw [v_sum (ew pl wt) up lb t j (fun s' h1 h2 => by
                  have := hI (t - 1) s' (by omega) (by omega)
                  rw [show t - 1 + 1 = t by omega] at this
                  exact this)] at hl
                refine z_iload F hl dX0_carryOn_42 rfl ?_
                refine z_iload_n F hl dX0_carryOn_44 rfl ?_
                refine z_icmp_gt F 106 dX0_carryOn_45 (fun c45 => ?_) (fun c45 => ?_)
                · refine z_aload_n F hl dX0_carryOn_106 rfl ?_
                  refine z_iload_n F hl dX0_carryOn_107 rfl ?_
                  refine rX0_markAt F h hl j dX0_carryOn_108 (fun H locs h => ?_)
                  refine z_istore F hl dX0_carryOn_111 (fun ls hl => ?_)
                  refine z_aload_n F hl dX0_carryOn_113 rfl ?_
                  refine dk_g5 F h dX0_carryOn_114 ?_
                  refine z_iload_n F hl dX0_carryOn_117 rfl ?_
                  refine z_bipush F dX0_carryOn_118 ?_
                  refine z_imul F dX0_carryOn_120 ?_
                  refine z_iload_n F hl dX0_carryOn_121 rfl ?_
                  refine z_iadd F dX0_carryOn_122 ?_
                  refine z_iload_n F hl dX0_carryOn_123 rfl ?_
                  refine z_aload_n F hl dX0_carryOn_124 rfl ?_
                  refine z_iload_n F hl dX0_carryOn_125 rfl ?_
                  refine z_iload F hl dX0_carryOn_126 rfl ?_
                  refine rX0_weightOf F h hl t (mk lb j) dX0_carryOn_128 (fun H locs h => ?_)
                  refine z_imul F dX0_carryOn_131 ?_
                  refine dk_s3 F h (9 * t + j) dX0_carryOn_132 (fun H locs h => ?_)
                  refine z_iinc F hl ((j + 1 : Nat) : Int) dX0_carryOn_133 rfl (fun ls hl => ?_)
                  refine z_goto F 12 dX0_carryOn_136 ?_
                  refine ih2 (j + 1) _ H locs ls (by omega) (fun t' s' h1 h2 => ?_) (fun s' h1 => ?_) h (hl.keep [true, true, true, false, false, false])
                  · rw [up1_n (by omega)]
                    exact hI t' s' h1 h2
                  · rcases Nat.lt_or_ge s' j with q | q
                    · rw [up1_n (by omega)]
                      exact hJ s' q
                    · obtain rfl : s' = j := by omega
                      rw [up1_s]
                      rfl
                · exact absurd c45 (by omega)
        exact inner (2 * k + 1) 0 up H locs ls (by omega) hI (fun s' h1 => absurd h1 (by omega)) h (hl.keep [true, true, true, false, false, false])
  exact outer n 0 up _ _ ls (by omega) (fun t' s' h1 => absurd h1 (by omega)) h (hl.keep [true, true, false, false, false, false])
theorem rX0_carryOn {p : Program} {l : Launch} {e : Env} {R : Room} {s : State} {m : MethodId} {args : Array Value} {below : List Frame} {meth : Method} {c : Code} {H : Heap} {locs : List Loc} {Q : State → Prop} {cc : ByteArray} {pc : Nat} {ls : Array Slot} {rest : List Value} {nL : Nat} {A : Nat → Prop} {vs : List (Option Value)} {D : va_G} {ad : Nat → Nat} {ca : Nat → ClassId} {n : Nat} {wt : Nat → Int} {k : Nat} {lb : Nat → Nat} {pl : Int} {up : Nat → Int} {on : Nat → Int} {bo : Nat → Int} (F : fx p m meth c s args cc nL RX0 A) (h : wh D (dw ad ca n wt k lb pl up on bo) (dt ca) A s H locs) (hl : lz ls nL vs)  (hdg : decode cc pc = .ok (.invokevirtual 59, 3)) (kk : ∀ (up' : Nat → Int) (H1 : Heap) (locs1 : List Loc), (∀ t s, t < n → s ≤ 2 * k → up' (9 * t + s) = Vf (ew pl wt) lb (t + 1) s) → wh D (dw ad ca n wt k lb pl up' on bo) (dt ca) A s H1 locs1 → W p l e R s m args below meth c H1 locs1 0 0 Q (F0 m (pc + 3) ls (rest))) (hn : n ≤ 6 := by first | assumption | omega) (hk : k ≤ 4 := by first | assumption | omega) (hb : ∀ j, lb j ≤ 3 := by first | assumption | omega) (hp : pl = 0 ∨ pl = 1 := by first | assumption | omega) (hR : 2 + 1 ≤ R.frames ∧ 8 + (6 + 11) + 43 ≤ R.locals := by omega) (hroom : (rest.map fun v => v.category).sum ≤ 8 := by exact Nat.le_of_ble_eq_true rfl) : W p l e R s m args below meth c H locs 0 0 Q (F0 m pc ls (.ref (ad 0) :: rest)) := by
  refine cv_call (ci := 0) (C := RX0) (T := TX0) (N := 8) (n := 0) F h (mX0_carryOn l D ad ca n wt k lb pl up on bo  hn hk hb hp) (lw_V q99 q101 qs2 q19 q102) (by decide +kernel) rfl rfl rfl hR ⟨Nat.zero_le _, Nat.zero_le _⟩ hl rfl hroom hdg (fun w1 H1 locs1 hp hw => ?_)
  obtain ⟨up', rfl, hP⟩ := hp
  exact kk up' H1 locs1 hP hw
end
section
/-! THE DESK: carryBack -/
theorem wx_bd {w x : Int} (hw : 0 ≤ w ∧ w ≤ 8) (hx : -1 ≤ x ∧ x ≤ 32768) : -8 ≤ w * x ∧ w * x ≤ 262144 := by
  have h : w = 0 ∨ w = 1 ∨ w = 2 ∨ w = 3 ∨ w = 4 ∨ w = 5 ∨ w = 6 ∨ w = 7 ∨ w = 8 := by omega
  rcases h with h | h | h | h | h | h | h | h | h <;> subst h <;> omega
theorem ew_bd {pl : Int} {wt : Nat → Int} (hw : ∀ j, 0 ≤ wt j ∧ wt j ≤ 8) (j : Nat) : 0 ≤ ew pl wt j ∧ ew pl wt j ≤ 8 := by
  unfold ew; split
  · exact hw j
  · show (0 : Int) ≤ 1 ∧ (1 : Int) ≤ 8
    decide
theorem mst_le {b : Bool} {w x y M : Int} (hy : -1 ≤ y ∧ y ≤ M) (hx : 0 ≤ x → w * x ≤ M) : -1 ≤ mst b w x y ∧ mst b w x y ≤ M := by
  unfold mst; split
  · next h => exact ⟨by omega, hx h.2.1⟩
  · exact hy
theorem w8 {w x M : Int} (hw : 0 ≤ w ∧ w ≤ 8) (hx : 0 ≤ x ∧ x ≤ M) : w * x ≤ 8 * M := by
  have h : w = 0 ∨ w = 1 ∨ w = 2 ∨ w = 3 ∨ w = 4 ∨ w = 5 ∨ w = 6 ∨ w = 7 ∨ w = 8 := by omega
  rcases h with h | h | h | h | h | h | h | h | h <;> subst h <;> omega
theorem mx_bd {w : Nat → Int} (hw : ∀ j, 0 ≤ w j ∧ w j ≤ 8) (lb : Nat → Nat) (k n : Nat) : ∀ d s, -1 ≤ Mx w lb k n d s ∧ Mx w lb k n d s ≤ ((8 ^ d : Nat) : Int)
  | 0, s => by unfold Mx; split <;> simp
  | d + 1, s => by
    have h1 : (((8 ^ (d + 1) : Nat)) : Int) = 8 * ((8 ^ d : Nat) : Int) := by rw [Nat.pow_succ]; omega
    have hp : (0 : Int) ≤ ((8 ^ d : Nat) : Int) := Int.natCast_nonneg _
    rw [h1]
    unfold Mx
    refine mst_le (mst_le (mst_le ⟨by omega, by omega⟩ ?_) ?_) ?_
    · intro h; exact w8 (hw _) ⟨h, (mx_bd hw lb k n d _).2⟩
    · intro h; exact w8 (hw _) ⟨h, (mx_bd hw lb k n d _).2⟩
    · intro h; exact w8 (hw _) ⟨h, (mx_bd hw lb k n d _).2⟩
theorem mx_32768 {w : Nat → Int} (hw : ∀ j, 0 ≤ w j ∧ w j ≤ 8) (lb : Nat → Nat) (k n : Nat) {d : Nat} (hd : d ≤ 5) (s : Nat) : -1 ≤ Mx w lb k n d s ∧ Mx w lb k n d s ≤ 32768 := by
  have h := mx_bd hw lb k n d s
  have : 8 ^ d ≤ 8 ^ 5 := Nat.pow_le_pow_right (by decide) hd
  omega
theorem mst_f {w x y : Int} : mst false w x y = y := by simp [mst]
set_option maxHeartbeats 4000000 in
set_option maxRecDepth 100000 in
theorem mX0_carryBack (l : Launch) (D : va_G) (ad : Nat → Nat) (ca : Nat → ClassId) (n : Nat) (wt : Nat → Int) (k : Nat) (lb : Nat → Nat) (pl : Int) (up : Nat → Int) (on : Nat → Int) (bo : Nat → Int)  (hn : n ≤ 6) (hk : k ≤ 4) (hb : ∀ j, lb j ≤ 3) (hp : pl = 0 ∨ pl = 1) (hw : ∀ j, 0 ≤ wt j ∧ wt j ≤ 8) : Cv l D (dt ca) yX0_carryBack cX0_carryBack 9 2 43 [.ref (ad 0)] (dw ad ca n wt k lb pl up on bo) (fun w => ∃ (on' : Nat → Int), ∃ (bo' : Nat → Int), w = dw ad ca n wt k lb pl up on' bo' ∧ (∀ t s, t < n → s ≤ 2 * k → on' (9 * t + s) = Bk (ew pl wt) lb k n (n - 1 - t) s ∧ bo' (9 * t + s) = Mx (ew pl wt) lb k n (n - 1 - t) s)) := by
  refine Cv.of (by decide) (Nat.le_of_ble_eq_true rfl) (by simp [Value.category]) ?_
  intro p e R s m args below meth c A Q ls hRf hRl F h hl ret
  have F : fx p m meth c s args cX0_carryBack 9 RX0 A := F
  have hew := fun j => ew_bd (pl := pl) hw j
  refine z_aload_n F hl dX0_carryBack_0 rfl ?_
  refine dk_g0 F h dX0_carryBack_1 ?_
  refine z_iconst F dX0_carryBack_4 ?_
  refine z_isub F dX0_carryBack_5 ?_
  refine z_istore_n F hl dX0_carryBack_6 (fun ls hl => ?_)
  have outer : ∀ (q : Nat) (on bo : Nat → Int) (H : Heap) (locs : List Loc) (ls : Array Slot), q ≤ n → (∀ t' s', q ≤ t' → t' < n → s' ≤ 2 * k → on (9 * t' + s') = Bk (ew pl wt) lb k n (n - 1 - t') s' ∧ bo (9 * t' + s') = Mx (ew pl wt) lb k n (n - 1 - t') s') → wh D (dw ad ca n wt k lb pl up on bo) (dt ca) A s H locs → lz ls 9 [some (.ref (ad 0)), some (.int (zI ((q : Int) - 1))), none, none, none, none, none, none, none] → W p l e R s m args below meth c H locs 0 0 Q (F0 m 7 ls []) := by
    intro q
    induction q with
    | zero =>
      intro on bo H locs ls hq hI h hl
      refine z_iload_n F hl dX0_carryBack_7 rfl ?_
      refine z_if_lt F 242 dX0_carryBack_8 (fun c8 => ?_) (fun c8 => ?_)
      · exact ret _ _ _ _ _ dX0_carryBack_242 h ⟨on, bo, rfl, fun t' s' h1 h2 => hI t' s' (by omega) h1 h2⟩
      · exact absurd c8 (by omega)
    | succ q ih =>
      intro on bo H locs ls hq hI h hl
      rw [show ((q + 1 : Nat) : Int) - 1 = (q : Int) by omega] at hl
      refine z_iload_n F hl dX0_carryBack_7 rfl ?_
      refine z_if_lt F 242 dX0_carryBack_8 (fun c8 => ?_) (fun c8 => ?_)
      · exact absurd c8 (by omega)
      · refine z_iconst F dX0_carryBack_11 ?_
        refine z_istore_n F hl dX0_carryBack_12 (fun ls hl => ?_)
        have inner : ∀ (d2 j : Nat) (on bo : Nat → Int) (H : Heap) (locs : List Loc) (ls : Array Slot), j + d2 = 2 * k + 1 → (∀ t' s', q + 1 ≤ t' → t' < n → s' ≤ 2 * k → on (9 * t' + s') = Bk (ew pl wt) lb k n (n - 1 - t') s' ∧ bo (9 * t' + s') = Mx (ew pl wt) lb k n (n - 1 - t') s') → (∀ s', s' < j → on (9 * q + s') = Bk (ew pl wt) lb k n (n - 1 - q) s' ∧ bo (9 * q + s') = Mx (ew pl wt) lb k n (n - 1 - q) s') → wh D (dw ad ca n wt k lb pl up on bo) (dt ca) A s H locs → lz ls 9 [some (.ref (ad 0)), some (.int (zI q)), some (.int (zI j)), none, none, none, none, none, none] → W p l e R s m args below meth c H locs 0 0 Q (F0 m 13 ls []) := by
          intro d2
          induction d2 with
          | zero =>
            intro j on bo H locs ls hj hI hJ h hl
            refine z_iload_n F hl dX0_carryBack_13 rfl ?_
            refine z_iconst F dX0_carryBack_14 ?_
            refine z_aload_n F hl dX0_carryBack_15 rfl ?_
            refine dk_g2 F h dX0_carryBack_16 ?_
            refine z_imul F dX0_carryBack_19 ?_
            refine z_icmp_gt F 236 dX0_carryBack_20 (fun c20 => ?_) (fun c20 => ?_)
            · refine z_iinc F hl ((q : Int) - 1) dX0_carryBack_236 rfl (fun ls hl => ?_)
              refine z_goto F 7 dX0_carryBack_239 ?_
              refine ih on bo H locs ls (by omega) (fun t' s' h0 h1 h2 => ?_) h (hl.keep [true, true, false, false, false, false, false, false, false])
              rcases Nat.lt_or_ge q t' with g | g
              · exact hI t' s' g h1 h2
              · obtain rfl : t' = q := by omega
                exact hJ s' (by omega)
            · exact absurd c20 (by omega)
          | succ d2 ih2 =>
            intro j on bo H locs ls hj hI hJ h hl
            refine z_iload_n F hl dX0_carryBack_13 rfl ?_
            refine z_iconst F dX0_carryBack_14 ?_
            refine z_aload_n F hl dX0_carryBack_15 rfl ?_
            refine dk_g2 F h dX0_carryBack_16 ?_
            refine z_imul F dX0_carryBack_19 ?_
            refine z_icmp_gt F 236 dX0_carryBack_20 (fun c20 => ?_) (fun c20 => ?_)
            · exact absurd c20 (by omega)
            · have tail : ∀ (x y : Int) (H : Heap) (locs : List Loc) (ls : Array Slot), wh D (dw ad ca n wt k lb pl up on bo) (dt ca) A s H locs → lz ls 9 [some (.ref (ad 0)), some (.int (zI q)), some (.int (zI j)), some (.int (zI x)), some (.int (zI y)), none, none, none, none] → x = Bk (ew pl wt) lb k n (n - 1 - q) j → y = Mx (ew pl wt) lb k n (n - 1 - q) j → W p l e R s m args below meth c H locs 0 0 Q (F0 m 205 ls []) := by
                intro x y H locs ls h hl hx hy
                refine z_aload_n F hl dX0_carryBack_205 rfl ?_
                refine dk_g6 F h dX0_carryBack_206 ?_
                refine z_iload_n F hl dX0_carryBack_209 rfl ?_
                refine z_bipush F dX0_carryBack_210 ?_
                refine z_imul F dX0_carryBack_212 ?_
                refine z_iload_n F hl dX0_carryBack_213 rfl ?_
                refine z_iadd F dX0_carryBack_214 ?_
                refine z_iload_n F hl dX0_carryBack_215 rfl ?_
                refine dk_s4 F h (9 * q + j) dX0_carryBack_216 (fun H locs h => ?_)
                refine z_aload_n F hl dX0_carryBack_217 rfl ?_
                refine dk_g7 F h dX0_carryBack_218 ?_
                refine z_iload_n F hl dX0_carryBack_221 rfl ?_
                refine z_bipush F dX0_carryBack_222 ?_
                refine z_imul F dX0_carryBack_224 ?_
                refine z_iload_n F hl dX0_carryBack_225 rfl ?_
                refine z_iadd F dX0_carryBack_226 ?_
                refine z_iload F hl dX0_carryBack_227 rfl ?_
                refine dk_s5 F h (9 * q + j) dX0_carryBack_229 (fun H locs h => ?_)
                refine z_iinc F hl ((j + 1 : Nat) : Int) dX0_carryBack_230 rfl (fun ls hl => ?_)
                refine z_goto F 13 dX0_carryBack_233 ?_
                refine ih2 (j + 1) _ _ H locs ls (by omega) (fun t' s' h0 h1 h2 => ?_) (fun s' h1 => ?_) h (hl.keep [true, true, true, false, false, false, false, false, false])
                · rw [up1_n (by omega), up1_n (by omega)]
                  exact hI t' s' h0 h1 h2
                · rcases Nat.lt_or_ge s' j with g | g
                  · rw [up1_n (by omega), up1_n (by omega)]
                    exact hJ s' g
                  · obtain rfl : s' = j := by omega
                    rw [up1_s, up1_s]
                    exact ⟨hx, hy⟩
              have fin : ∀ (r : Nat) (x y : Int) (H : Heap) (locs : List Loc) (ls : Array Slot), r ≤ 12 → (q + 1 = n ∨ j + 2 < r ∨ 2 * k < r) → wh D (dw ad ca n wt k lb pl up on bo) (dt ca) A s H locs → lz ls 9 [some (.ref (ad 0)), some (.int (zI q)), some (.int (zI j)), some (.int (zI x)), some (.int (zI y)), some (.int (zI r)), none, none, none] → x = Bk (ew pl wt) lb k n (n - 1 - q) j → y = Mx (ew pl wt) lb k n (n - 1 - q) j → W p l e R s m args below meth c H locs 0 0 Q (F0 m 75 ls []) := by
                intro r x y H locs ls hr hr2 h hl hx hy
                have hl2 := hl.keep [true, true, true, true, true, false, false, false, false]
                refine z_iload_n F hl dX0_carryBack_75 rfl ?_
                refine z_aload_n F hl dX0_carryBack_76 rfl ?_
                refine dk_g0 F h dX0_carryBack_77 ?_
                refine z_iconst F dX0_carryBack_80 ?_
                refine z_isub F dX0_carryBack_81 ?_
                refine z_icmp_ge F 205 dX0_carryBack_82 (fun c82 => ?_) (fun c82 => ?_)
                · exact tail x y H locs ls h hl2 hx hy
                · refine z_iload F hl dX0_carryBack_85 rfl ?_
                  refine z_iload_n F hl dX0_carryBack_87 rfl ?_
                  refine z_iconst F dX0_carryBack_88 ?_
                  refine z_iadd F dX0_carryBack_89 ?_
                  refine z_icmp_gt F 205 dX0_carryBack_90 (fun c90 => ?_) (fun c90 => ?_)
                  · exact tail x y H locs ls h hl2 hx hy
                  · refine z_iload F hl dX0_carryBack_93 rfl ?_
                    refine z_iconst F dX0_carryBack_95 ?_
                    refine z_aload_n F hl dX0_carryBack_96 rfl ?_
                    refine dk_g2 F h dX0_carryBack_97 ?_
                    refine z_imul F dX0_carryBack_100 ?_
                    refine z_icmp_gt F 205 dX0_carryBack_101 (fun c101 => ?_) (fun c101 => ?_)
                    · exact tail x y H locs ls h hl2 hx hy
                    · omega
              have st : ∀ (r : Nat) (x y : Int) (H : Heap) (locs : List Loc) (ls : Array Slot), j ≤ r → r ≤ j + 2 → r ≤ 2 * k → q + 1 < n → (-1 ≤ y ∧ y ≤ 262144) → wh D (dw ad ca n wt k lb pl up on bo) (dt ca) A s H locs → lz ls 9 [some (.ref (ad 0)), some (.int (zI q)), some (.int (zI j)), some (.int (zI x)), some (.int (zI y)), some (.int (zI r)), none, none, none] → (∀ (H : Heap) (locs : List Loc) (ls : Array Slot), wh D (dw ad ca n wt k lb pl up on bo) (dt ca) A s H locs → (-1 ≤ mst (ld lb j r) (ew pl wt (4 * (q + 1) + mk lb r)) (bo (9 * (q + 1) + r)) y ∧ mst (ld lb j r) (ew pl wt (4 * (q + 1) + mk lb r)) (bo (9 * (q + 1) + r)) y ≤ 262144) → lz ls 9 [some (.ref (ad 0)), some (.int (zI q)), some (.int (zI j)), some (.int (zI (x + if ld lb j r then ew pl wt (4 * (q + 1) + mk lb r) * on (9 * (q + 1) + r) else 0))), some (.int (zI (mst (ld lb j r) (ew pl wt (4 * (q + 1) + mk lb r)) (bo (9 * (q + 1) + r)) y))), some (.int (zI ((r + 1 : Nat) : Int))), none, none, none] → W p l e R s m args below meth c H locs 0 0 Q (F0 m 75 ls [])) → W p l e R s m args below meth c H locs 0 0 Q (F0 m 75 ls []) := by
                intro r x y H locs ls hr0 hr1 hr2 hqn hy h hl kont
                have hmk := mk_le hb r
                have hbo : -1 ≤ bo (9 * (q + 1) + r) ∧ bo (9 * (q + 1) + r) ≤ 32768 := by
                  rw [(hI (q + 1) r (by omega) (by omega) (by omega)).2]
                  exact mx_32768 hew lb k n (by omega) r
                have hwx := wx_bd (hew (4 * (q + 1) + mk lb r)) hbo
                refine z_iload_n F hl dX0_carryBack_75 rfl ?_
                refine z_aload_n F hl dX0_carryBack_76 rfl ?_
                refine dk_g0 F h dX0_carryBack_77 ?_
                refine z_iconst F dX0_carryBack_80 ?_
                refine z_isub F dX0_carryBack_81 ?_
                refine z_icmp_ge F 205 dX0_carryBack_82 (fun c82 => ?_) (fun c82 => ?_)
                · omega
                · refine z_iload F hl dX0_carryBack_85 rfl ?_
                  refine z_iload_n F hl dX0_carryBack_87 rfl ?_
                  refine z_iconst F dX0_carryBack_88 ?_
                  refine z_iadd F dX0_carryBack_89 ?_
                  refine z_icmp_gt F 205 dX0_carryBack_90 (fun c90 => ?_) (fun c90 => ?_)
                  · omega
                  · refine z_iload F hl dX0_carryBack_93 rfl ?_
                    refine z_iconst F dX0_carryBack_95 ?_
                    refine z_aload_n F hl dX0_carryBack_96 rfl ?_
                    refine dk_g2 F h dX0_carryBack_97 ?_
                    refine z_imul F dX0_carryBack_100 ?_
                    refine z_icmp_gt F 205 dX0_carryBack_101 (fun c101 => ?_) (fun c101 => ?_)
                    · omega
                    · refine z_aload_n F hl dX0_carryBack_104 rfl ?_
                      refine z_iload_n F hl dX0_carryBack_105 rfl ?_
                      refine z_iload F hl dX0_carryBack_106 rfl ?_
                      refine rX0_leads F h hl j r dX0_carryBack_108 (fun H locs h => ?_)
                      refine z_if_eq F 199 dX0_carryBack_111 (fun c111 => ?_) (fun c111 => ?_) (bz_in _)
                      · have c111 := bz_e0 c111
                        refine z_iinc F hl ((r + 1 : Nat) : Int) dX0_carryBack_199 rfl (fun ls hl => ?_)
                        refine z_goto F 75 dX0_carryBack_202 ?_
                        refine kont H locs ls h ?_ ?_
                        · rw [c111, mst_f]; exact hy
                        · rw [c111, mst_f, if_neg (by decide), Int.add_zero]
                          exact hl
                      · have c111 := bz_n0 c111
                        refine z_iload_n F hl dX0_carryBack_114 rfl ?_
                        refine z_iconst F dX0_carryBack_115 ?_
                        refine z_iadd F dX0_carryBack_116 ?_
                        refine z_bipush F dX0_carryBack_117 ?_
                        refine z_imul F dX0_carryBack_119 ?_
                        refine z_iload F hl dX0_carryBack_120 rfl ?_
                        refine z_iadd F dX0_carryBack_122 ?_
                        refine z_istore F hl dX0_carryBack_123 (fun ls hl => ?_)
                        refine z_aload_n F hl dX0_carryBack_125 rfl ?_
                        refine z_iload F hl dX0_carryBack_126 rfl ?_
                        refine rX0_markAt F h hl r dX0_carryBack_128 (fun H locs h => ?_)
                        refine z_istore F hl dX0_carryBack_131 (fun ls hl => ?_)
                        refine z_aload_n F hl dX0_carryBack_133 rfl ?_
                        refine z_iload_n F hl dX0_carryBack_134 rfl ?_
                        refine z_iconst F dX0_carryBack_135 ?_
                        refine z_iadd F dX0_carryBack_136 ?_
                        refine z_iload F hl dX0_carryBack_137 rfl ?_
                        refine rX0_weightOf F h hl (q + 1) (mk lb r) dX0_carryBack_139 (fun H locs h => ?_)
                        refine z_istore F hl dX0_carryBack_142 (fun ls hl => ?_)
                        refine z_iload_n F hl dX0_carryBack_144 rfl ?_
                        refine z_iload F hl dX0_carryBack_145 rfl ?_
                        refine z_aload_n F hl dX0_carryBack_147 rfl ?_
                        refine dk_g6 F h dX0_carryBack_148 ?_
                        refine z_iload F hl dX0_carryBack_151 rfl ?_
                        refine dk_l4 F h (9 * (q + 1) + r) dX0_carryBack_153 ?_
                        refine z_imul F dX0_carryBack_154 ?_
                        refine z_iadd F dX0_carryBack_155 ?_
                        refine z_istore_n F hl dX0_carryBack_156 (fun ls hl => ?_)
                        refine z_join 197 (mst true (ew pl wt (4 * (q + 1) + mk lb r)) (bo (9 * (q + 1) + r)) y) (fun J => ?_) ?_
                        · refine z_aload_n F hl dX0_carryBack_157 rfl ?_
                          refine dk_g7 F h dX0_carryBack_158 ?_
                          refine z_iload F hl dX0_carryBack_161 rfl ?_
                          refine dk_l5 F h (9 * (q + 1) + r) dX0_carryBack_163 ?_
                          refine z_if_lt F 195 dX0_carryBack_164 (fun c164 => ?_) (fun c164 => ?_)
                          · refine z_iload F hl dX0_carryBack_195 rfl ?_
                            refine J _ ?_
                            rw [mst, if_neg (by omega)]
                          · refine z_iload F hl dX0_carryBack_167 rfl ?_
                            refine z_aload_n F hl dX0_carryBack_169 rfl ?_
                            refine dk_g7 F h dX0_carryBack_170 ?_
                            refine z_iload F hl dX0_carryBack_173 rfl ?_
                            refine dk_l5 F h (9 * (q + 1) + r) dX0_carryBack_175 ?_
                            refine z_imul F dX0_carryBack_176 ?_
                            refine z_iload F hl dX0_carryBack_177 rfl ?_
                            refine z_icmp_le F 195 dX0_carryBack_179 (fun c179 => ?_) (fun c179 => ?_)
                            · refine z_iload F hl dX0_carryBack_195 rfl ?_
                              refine J _ ?_
                              rw [mst, if_neg (by omega)]
                            · refine z_iload F hl dX0_carryBack_182 rfl ?_
                              refine z_aload_n F hl dX0_carryBack_184 rfl ?_
                              refine dk_g7 F h dX0_carryBack_185 ?_
                              refine z_iload F hl dX0_carryBack_188 rfl ?_
                              refine dk_l5 F h (9 * (q + 1) + r) dX0_carryBack_190 ?_
                              refine z_imul F dX0_carryBack_191 ?_
                              refine z_goto F 197 dX0_carryBack_192 ?_
                              refine J _ ?_
                              rw [mst, if_pos ⟨rfl, by omega, by omega⟩]
                        · refine z_istore F hl dX0_carryBack_197 (fun ls hl => ?_)
                          refine z_iinc F hl ((r + 1 : Nat) : Int) dX0_carryBack_199 rfl (fun ls hl => ?_)
                          refine z_goto F 75 dX0_carryBack_202 ?_
                          refine kont H locs ls h ?_ ?_
                          · exact mst_le hy (fun _ => hwx.2)
                          · rw [c111, if_pos rfl]
                            exact hl.keep [true, true, true, true, true, true, false, false, false]
              refine z_joinH h 46 (bz (decide (q + 1 = n ∧ 2 * k ≤ j + 1))) (fun J => ?_) (fun H locs h => ?_)
              · refine z_iload_n F hl dX0_carryBack_23 rfl ?_
                refine z_aload_n F hl dX0_carryBack_24 rfl ?_
                refine dk_g0 F h dX0_carryBack_25 ?_
                refine z_iconst F dX0_carryBack_28 ?_
                refine z_isub F dX0_carryBack_29 ?_
                refine z_icmp_ne F 45 dX0_carryBack_30 (fun c30 => ?_) (fun c30 => ?_)
                · refine z_iconst F dX0_carryBack_45 ?_
                  exact J _ _ _ (bz_df (by omega)) h
                · refine z_aload_n F hl dX0_carryBack_33 rfl ?_
                  refine z_iload_n F hl dX0_carryBack_34 rfl ?_
                  refine rX0_endsAt F h hl j dX0_carryBack_35 (fun H locs h => ?_)
                  refine z_if_eq F 45 dX0_carryBack_38 (fun c38 => ?_) (fun c38 => ?_) (bz_in _)
                  · have c38 := bz_d0 c38
                    refine z_iconst F dX0_carryBack_45 ?_
                    exact J _ _ _ (bz_df (by omega)) h
                  · have c38 := bz_d1 c38
                    refine z_iconst F dX0_carryBack_41 ?_
                    refine z_goto F 46 dX0_carryBack_42 ?_
                    exact J _ _ _ (bz_dt (by omega)) h
              · refine z_istore_n F hl dX0_carryBack_46 (fun ls hl => ?_)
                refine z_joinH h 70 (if q + 1 = n ∧ 2 * k ≤ j + 1 then 1 else -1) (fun J => ?_) (fun H locs h => ?_)
                · refine z_iload_n F hl dX0_carryBack_47 rfl ?_
                  refine z_aload_n F hl dX0_carryBack_48 rfl ?_
                  refine dk_g0 F h dX0_carryBack_49 ?_
                  refine z_iconst F dX0_carryBack_52 ?_
                  refine z_isub F dX0_carryBack_53 ?_
                  refine z_icmp_ne F 69 dX0_carryBack_54 (fun c54 => ?_) (fun c54 => ?_)
                  · refine z_iconst F dX0_carryBack_69 ?_
                    exact J _ _ _ (by rw [if_neg (by omega)]) h
                  · refine z_aload_n F hl dX0_carryBack_57 rfl ?_
                    refine z_iload_n F hl dX0_carryBack_58 rfl ?_
                    refine rX0_endsAt F h hl j dX0_carryBack_59 (fun H locs h => ?_)
                    refine z_if_eq F 69 dX0_carryBack_62 (fun c62 => ?_) (fun c62 => ?_) (bz_in _)
                    · have c62 := bz_d0 c62
                      refine z_iconst F dX0_carryBack_69 ?_
                      exact J _ _ _ (by rw [if_neg (by omega)]) h
                    · have c62 := bz_d1 c62
                      refine z_iconst F dX0_carryBack_65 ?_
                      refine z_goto F 70 dX0_carryBack_66 ?_
                      exact J _ _ _ (by rw [if_pos (by omega)]) h
                · refine z_istore F hl dX0_carryBack_70 (fun ls hl => ?_)
                  refine z_iload_n F hl dX0_carryBack_72 rfl ?_
                  refine z_istore F hl dX0_carryBack_73 (fun ls hl => ?_)
                  have hl := hl.keep [true, true, true, true, true, true, false, false, false]
                  by_cases hqn : q + 1 = n
                  · refine fin j _ _ H locs ls (by omega) (Or.inl hqn) h hl ?_ ?_
                    · rw [show n - 1 - q = 0 by omega, Bk]
                      by_cases g : 2 * k ≤ j + 1
                      · rw [if_pos g, ← bz_dt ⟨hqn, g⟩]
                      · rw [if_neg g, ← bz_df (fun z => g z.2)]
                    · rw [show n - 1 - q = 0 by omega, Mx]
                      by_cases g : 2 * k ≤ j + 1
                      · rw [if_pos g, if_pos ⟨hqn, g⟩]
                      · rw [if_neg g, if_neg (fun z => g z.2)]
                  · rw [← bz_df (P := q + 1 = n ∧ 2 * k ≤ j + 1) (fun z => hqn z.1), if_neg (fun z => hqn z.1)] at hl
                    obtain ⟨d, hd⟩ : ∃ d, n - 1 - q = d + 1 := ⟨n - 2 - q, by omega⟩
                    have hd2 : n - 1 - d = q + 1 := by omega
                    have eB : ∀ r, r ≤ 2 * k → on (9 * (q + 1) + r) = Bk (ew pl wt) lb k n d r := fun r hr => by
                      have := (hI (q + 1) r (by omega) (by omega) hr).1
                      rw [show n - 1 - (q + 1) = d by omega] at this
                      exact this
                    have eM : ∀ r, r ≤ 2 * k → bo (9 * (q + 1) + r) = Mx (ew pl wt) lb k n d r := fun r hr => by
                      have := (hI (q + 1) r (by omega) (by omega) hr).2
                      rw [show n - 1 - (q + 1) = d by omega] at this
                      exact this
                    refine st j _ _ H locs ls (by omega) (by omega) (by omega) (by omega) (by omega) h hl (fun H locs ls h hy hl => ?_)
                    by_cases g1 : j + 1 ≤ 2 * k
                    · refine st (j + 1) _ _ H locs ls (by omega) (by omega) (by omega) (by omega) hy h hl (fun H locs ls h hy hl => ?_)
                      by_cases g2 : j + 2 ≤ 2 * k
                      · refine st (j + 2) _ _ H locs ls (by omega) (by omega) (by omega) (by omega) hy h hl (fun H locs ls h hy hl => ?_)
                        refine fin (j + 2 + 1) _ _ H locs ls (by omega) (by omega) h hl ?_ ?_
                        · rw [hd, Bk, b3, if_pos g1, if_pos g2, hd2, eB j (by omega), eB _ g1, eB _ g2]
                          omega
                        · rw [hd, Mx, hd2, eM j (by omega), eM _ g1, eM _ g2, decide_eq_true g1, decide_eq_true g2, Bool.and_true, Bool.and_true]
                      · refine fin (j + 1 + 1) _ _ H locs ls (by omega) (by omega) h hl ?_ ?_
                        · rw [hd, Bk, b3, if_pos g1, if_neg g2, hd2, eB j (by omega), eB _ g1]
                          omega
                        · rw [hd, Mx, hd2, eM j (by omega), eM _ g1, decide_eq_true g1, decide_eq_false g2, Bool.and_true, Bool.and_false, mst_f]
                    · refine fin (j + 1) _ _ H locs ls (by omega) (by omega) h hl ?_ ?_
                      · rw [hd, Bk, b3, if_neg g1, if_neg (show ¬ j + 2 ≤ 2 * k by omega), hd2, eB j (by omega)]
                        omega
                      · rw [hd, Mx, hd2, eM j (by omega), decide_eq_false g1, decide_eq_false (show ¬ j + 2 ≤ 2 * k by omega), Bool.and_false, Bool.and_false, mst_f, mst_f]
        exact inner (2 * k + 1) 0 on bo H locs ls (by omega) hI (fun s' h1 => absurd h1 (by omega)) h (hl.keep [true, true, true, false, false, false, false, false, false])
  exact outer n on bo _ _ ls (Nat.le_refl _) (fun t' s' h0 h1 => absurd h1 (by omega)) h (hl.keep [true, true, false, false, false, false, false, false, false])
theorem rX0_carryBack {p : Program} {l : Launch} {e : Env} {R : Room} {s : State} {m : MethodId} {args : Array Value} {below : List Frame} {meth : Method} {c : Code} {H : Heap} {locs : List Loc} {Q : State → Prop} {cc : ByteArray} {pc : Nat} {ls : Array Slot} {rest : List Value} {nL : Nat} {A : Nat → Prop} {vs : List (Option Value)} {D : va_G} {ad : Nat → Nat} {ca : Nat → ClassId} {n : Nat} {wt : Nat → Int} {k : Nat} {lb : Nat → Nat} {pl : Int} {up : Nat → Int} {on : Nat → Int} {bo : Nat → Int} (F : fx p m meth c s args cc nL RX0 A) (h : wh D (dw ad ca n wt k lb pl up on bo) (dt ca) A s H locs) (hl : lz ls nL vs)  (hdg : decode cc pc = .ok (.invokevirtual 66, 3)) (kk : ∀ (on' : Nat → Int) (bo' : Nat → Int) (H1 : Heap) (locs1 : List Loc), (∀ t s, t < n → s ≤ 2 * k → on' (9 * t + s) = Bk (ew pl wt) lb k n (n - 1 - t) s ∧ bo' (9 * t + s) = Mx (ew pl wt) lb k n (n - 1 - t) s) → wh D (dw ad ca n wt k lb pl up on' bo') (dt ca) A s H1 locs1 → W p l e R s m args below meth c H1 locs1 0 0 Q (F0 m (pc + 3) ls (rest))) (hn : n ≤ 6 := by first | assumption | omega) (hk : k ≤ 4 := by first | assumption | omega) (hb : ∀ j, lb j ≤ 3 := by first | assumption | omega) (hp : pl = 0 ∨ pl = 1 := by first | assumption | omega) (hw : ∀ j, 0 ≤ wt j ∧ wt j ≤ 8 := by first | assumption | omega) (hR : 2 + 1 ≤ R.frames ∧ 8 + (9 + 11) + 43 ≤ R.locals := by omega) (hroom : (rest.map fun v => v.category).sum ≤ 8 := by exact Nat.le_of_ble_eq_true rfl) : W p l e R s m args below meth c H locs 0 0 Q (F0 m pc ls (.ref (ad 0) :: rest)) := by
  refine cv_call (ci := 0) (C := RX0) (T := TX0) (N := 8) (n := 0) F h (mX0_carryBack l D ad ca n wt k lb pl up on bo  hn hk hb hp hw) (lw_V q131 q133 qs8 q19 q134) (by decide +kernel) rfl rfl rfl hR ⟨Nat.zero_le _, Nat.zero_le _⟩ hl rfl hroom hdg (fun w1 H1 locs1 hp hw => ?_)
  obtain ⟨on', bo', rfl, hP⟩ := hp
  exact kk on' bo' H1 locs1 hP hw
end
section
/-! THE DESK: sums, greatest weights, through, everything, bestNext -/
theorem sm_0 {f : Nat → Int} : ∀ {n : Nat}, (∀ i, i < n → f i = 0) → sm f n = 0
  | 0, _ => rfl
  | n + 1, h => by
    show sm f n + f n = 0
    rw [sm_0 (fun i hi => h i (by omega)), h n (by omega)]; rfl
theorem tot_0 (w : Nat → Int) (lb : Nat → Nat) (k : Nat) : tot w lb k 0 = if k = 0 then 1 else 0 := by
  unfold tot
  by_cases hk : k = 0
  · subst hk; simp [sm, Vf]
  · rw [if_neg hk]
    refine sm_0 (fun i hi => ?_)
    by_cases h1 : 2 * k ≤ i + 1
    · rw [if_pos h1, Vf, if_neg (by omega)]
    · rw [if_neg h1]
set_option maxHeartbeats 4000000 in
set_option maxRecDepth 100000 in
theorem mX0_sumAll (l : Launch) (D : va_G) (ad : Nat → Nat) (ca : Nat → ClassId) (n : Nat) (wt : Nat → Int) (k : Nat) (lb : Nat → Nat) (pl : Int) (up : Nat → Int) (on : Nat → Int) (bo : Nat → Int)  (hn : n ≤ 6) (hk : k ≤ 4) (hb : ∀ j, lb j ≤ 3) (hp : pl = 0 ∨ pl = 1) : Ci l D (dt ca) yX0_sumAll cX0_sumAll 3 (some .int) 3 68 [.ref (ad 0)] (dw ad ca n wt k lb pl up on bo) (fun r w => ∃ (up' : Nat → Int), r = zI (tot (ew pl wt) lb k n) ∧ w = dw ad ca n wt k lb pl up' on bo) := by
  refine Ci.of (by decide) (Nat.le_of_ble_eq_true rfl) (by simp [Value.category]) ?_
  intro p e R s m args below meth c A Q ls hRf hRl F h hl ret
  have F : fx p m meth c s args cX0_sumAll 3 RX0 A := F
  refine z_aload_n F hl dX0_sumAll_0 rfl ?_
  refine rX0_carryOn F h hl dX0_sumAll_1 (fun up' H locs hU h => ?_)
  refine z_aload_n F hl dX0_sumAll_4 rfl ?_
  refine dk_g0 F h dX0_sumAll_5 ?_
  refine z_if_ne F 24 dX0_sumAll_8 (fun c8 => ?_) (fun c8 => ?_)
  · refine z_iconst F dX0_sumAll_24 ?_
    refine z_istore_n F hl dX0_sumAll_25 (fun ls hl => ?_)
    refine z_iconst F dX0_sumAll_26 ?_
    refine z_istore_n F hl dX0_sumAll_27 (fun ls hl => ?_)
    have L : ∀ (d j : Nat) (x : Int) (H : Heap) (locs : List Loc) (ls : Array Slot), j + d = 2 * k + 1 → x = sm (fun s => if 2 * k ≤ s + 1 then Vf (ew pl wt) lb n s else 0) j → wh D (dw ad ca n wt k lb pl up' on bo) (dt ca) A s H locs → lz ls 3 [some (.ref (ad 0)), some (.int (zI x)), some (.int (zI j))] → W p l e R s m args below meth c H locs 0 0 Q (F0 m 28 ls []) := by
      intro d
      induction d with
      | zero =>
        intro j x H locs ls hj hx h hl
        refine z_iload_n F hl dX0_sumAll_28 rfl ?_
        refine z_iconst F dX0_sumAll_29 ?_
        refine z_aload_n F hl dX0_sumAll_30 rfl ?_
        refine dk_g2 F h dX0_sumAll_31 ?_
        refine z_imul F dX0_sumAll_34 ?_
        refine z_icmp_gt F 75 dX0_sumAll_35 (fun c35 => ?_) (fun c35 => ?_)
        · refine z_iload_n F hl dX0_sumAll_75 rfl ?_
          refine ret _ _ _ _ _ _ dX0_sumAll_76 h ⟨up', ?_, rfl⟩
          rw [hx, tot, show j = 2 * k + 1 by omega]
        · exact absurd c35 (by omega)
      | succ d ih =>
        intro j x H locs ls hj hx h hl
        refine z_iload_n F hl dX0_sumAll_28 rfl ?_
        refine z_iconst F dX0_sumAll_29 ?_
        refine z_aload_n F hl dX0_sumAll_30 rfl ?_
        refine dk_g2 F h dX0_sumAll_31 ?_
        refine z_imul F dX0_sumAll_34 ?_
        refine z_icmp_gt F 75 dX0_sumAll_35 (fun c35 => ?_) (fun c35 => ?_)
        · exact absurd c35 (by omega)
        · refine z_iload_n F hl dX0_sumAll_38 rfl ?_
          refine z_joinH h 67 (if 2 * k ≤ j + 1 then Vf (ew pl wt) lb n j else 0) (fun J => ?_) (fun H locs h => ?_)
          · refine z_aload_n F hl dX0_sumAll_39 rfl ?_
            refine z_iload_n F hl dX0_sumAll_40 rfl ?_
            refine rX0_endsAt F h hl j dX0_sumAll_41 (fun H locs h => ?_)
            refine z_if_eq F 66 dX0_sumAll_44 (fun c44 => ?_) (fun c44 => ?_) (bz_in _)
            · have c44 := bz_d0 c44
              refine z_iconst F dX0_sumAll_66 ?_
              exact J _ _ _ (by rw [if_neg c44]) h
            · have c44 := bz_d1 c44
              refine z_aload_n F hl dX0_sumAll_47 rfl ?_
              refine dk_g5 F h dX0_sumAll_48 ?_
              refine z_aload_n F hl dX0_sumAll_51 rfl ?_
              refine dk_g0 F h dX0_sumAll_52 ?_
              refine z_iconst F dX0_sumAll_55 ?_
              refine z_isub F dX0_sumAll_56 ?_
              refine z_bipush F dX0_sumAll_57 ?_
              refine z_imul F dX0_sumAll_59 ?_
              refine z_iload_n F hl dX0_sumAll_60 rfl ?_
              refine z_iadd F dX0_sumAll_61 ?_
              refine dk_l3 F h (9 * (n - 1) + j) dX0_sumAll_62 ?_
              refine z_goto F 67 dX0_sumAll_63 ?_
              refine J _ _ _ ?_ h
              rw [if_pos c44, hU (n - 1) j (by omega) (by omega), show n - 1 + 1 = n by omega]
          · refine z_iadd F dX0_sumAll_67 ?_
            refine z_istore_n F hl dX0_sumAll_68 (fun ls hl => ?_)
            refine z_iinc F hl ((j + 1 : Nat) : Int) dX0_sumAll_69 rfl (fun ls hl => ?_)
            refine z_goto F 28 dX0_sumAll_72 ?_
            refine ih (j + 1) _ H locs ls (by omega) ?_ h hl
            rw [hx]; rfl
    exact L (2 * k + 1) 0 0 H locs ls (by omega) rfl h hl
  · refine z_join 23 (tot (ew pl wt) lb k n) (fun J => ?_) ?_
    · refine z_aload_n F hl dX0_sumAll_11 rfl ?_
      refine dk_g2 F h dX0_sumAll_12 ?_
      refine z_if_ne F 22 dX0_sumAll_15 (fun c15 => ?_) (fun c15 => ?_)
      · refine z_iconst F dX0_sumAll_22 ?_
        refine J _ ?_
        rw [show n = 0 by omega, tot_0, if_neg (by omega)]
      · refine z_iconst F dX0_sumAll_18 ?_
        refine z_goto F 23 dX0_sumAll_19 ?_
        refine J _ ?_
        rw [show n = 0 by omega, tot_0, if_pos (by omega)]
    · exact ret _ _ _ _ _ _ dX0_sumAll_23 h ⟨up', rfl, rfl⟩
theorem rX0_sumAll {p : Program} {l : Launch} {e : Env} {R : Room} {s : State} {m : MethodId} {args : Array Value} {below : List Frame} {meth : Method} {c : Code} {H : Heap} {locs : List Loc} {Q : State → Prop} {cc : ByteArray} {pc : Nat} {ls : Array Slot} {rest : List Value} {nL : Nat} {A : Nat → Prop} {vs : List (Option Value)} {D : va_G} {ad : Nat → Nat} {ca : Nat → ClassId} {n : Nat} {wt : Nat → Int} {k : Nat} {lb : Nat → Nat} {pl : Int} {up : Nat → Int} {on : Nat → Int} {bo : Nat → Int} (F : fx p m meth c s args cc nL RX0 A) (h : wh D (dw ad ca n wt k lb pl up on bo) (dt ca) A s H locs) (hl : lz ls nL vs)  (hdg : decode cc pc = .ok (.invokevirtual 62, 3)) (kk : ∀ (up' : Nat → Int) (H1 : Heap) (locs1 : List Loc), wh D (dw ad ca n wt k lb pl up' on bo) (dt ca) A s H1 locs1 → W p l e R s m args below meth c H1 locs1 0 0 Q (F0 m (pc + 3) ls (.int (zI (tot (ew pl wt) lb k n)) :: rest))) (hn : n ≤ 6 := by first | assumption | omega) (hk : k ≤ 4 := by first | assumption | omega) (hb : ∀ j, lb j ≤ 3 := by first | assumption | omega) (hp : pl = 0 ∨ pl = 1 := by first | assumption | omega) (hR : 3 + 1 ≤ R.frames ∧ 8 + (3 + 11) + 68 ≤ R.locals := by omega) (hroom : (rest.map fun v => v.category).sum ≤ 8 := by exact Nat.le_of_ble_eq_true rfl) : W p l e R s m args below meth c H locs 0 0 Q (F0 m pc ls (.ref (ad 0) :: rest)) := by
  refine ci_call (ci := 0) (C := RX0) (T := TX0) (N := 8) (n := 0) F h (mX0_sumAll l D ad ca n wt k lb pl up on bo  hn hk hb hp) (lw_V q95 q97 qs1 q19 q98) (by decide +kernel) rfl rfl rfl hR ⟨Nat.zero_le _, Nat.zero_le _⟩ hl rfl hroom hdg (fun r w1 H1 locs1 hp hw => ?_)
  obtain ⟨up', rfl, rfl⟩ := hp
  exact kk up' H1 locs1 hw
set_option maxHeartbeats 4000000 in
set_option maxRecDepth 100000 in
theorem mX0_total (l : Launch) (D : va_G) (ad : Nat → Nat) (ca : Nat → ClassId) (n : Nat) (wt : Nat → Int) (k : Nat) (lb : Nat → Nat) (pl : Int) (up : Nat → Int) (on : Nat → Int) (bo : Nat → Int)  (hn : n ≤ 6) (hk : k ≤ 4) (hb : ∀ j, lb j ≤ 3) : Ci l D (dt ca) yX0_total cX0_total 1 (some .int) 4 90 [.ref (ad 0)] (dw ad ca n wt k lb pl up on bo) (fun r w => ∃ (up' : Nat → Int), r = zI (tot wt lb k n) ∧ w = dw ad ca n wt k lb 0 up' on bo) := by
  refine Ci.of (by decide) (Nat.le_of_ble_eq_true rfl) (by simp [Value.category]) ?_
  intro p e R s m args below meth c A Q ls hRf hRl F h hl ret
  have F : fx p m meth c s args cX0_total 1 RX0 A := F
  refine z_aload_n F hl dX0_total_0 rfl ?_
  refine z_iconst F dX0_total_1 ?_
  refine dk_p4_0 F h dX0_total_2 (fun H locs h => ?_)
  refine z_aload_n F hl dX0_total_5 rfl ?_
  refine rX0_sumAll F h hl dX0_total_6 (fun up' H locs h => ?_)
  exact ret _ _ _ _ _ _ dX0_total_9 h ⟨up', rfl, rfl⟩
theorem rX0_total {p : Program} {l : Launch} {e : Env} {R : Room} {s : State} {m : MethodId} {args : Array Value} {below : List Frame} {meth : Method} {c : Code} {H : Heap} {locs : List Loc} {Q : State → Prop} {cc : ByteArray} {pc : Nat} {ls : Array Slot} {rest : List Value} {nL : Nat} {A : Nat → Prop} {vs : List (Option Value)} {D : va_G} {ad : Nat → Nat} {ca : Nat → ClassId} {n : Nat} {wt : Nat → Int} {k : Nat} {lb : Nat → Nat} {pl : Int} {up : Nat → Int} {on : Nat → Int} {bo : Nat → Int} (F : fx p m meth c s args cc nL RX0 A) (h : wh D (dw ad ca n wt k lb pl up on bo) (dt ca) A s H locs) (hl : lz ls nL vs)  (hdg : decode cc pc = .ok (.invokevirtual 84, 3)) (kk : ∀ (up' : Nat → Int) (H1 : Heap) (locs1 : List Loc), wh D (dw ad ca n wt k lb 0 up' on bo) (dt ca) A s H1 locs1 → W p l e R s m args below meth c H1 locs1 0 0 Q (F0 m (pc + 3) ls (.int (zI (tot wt lb k n)) :: rest))) (hn : n ≤ 6 := by first | assumption | omega) (hk : k ≤ 4 := by first | assumption | omega) (hb : ∀ j, lb j ≤ 3 := by first | assumption | omega) (hR : 4 + 1 ≤ R.frames ∧ 8 + (1 + 11) + 90 ≤ R.locals := by omega) (hroom : (rest.map fun v => v.category).sum ≤ 8 := by exact Nat.le_of_ble_eq_true rfl) : W p l e R s m args below meth c H locs 0 0 Q (F0 m pc ls (.ref (ad 0) :: rest)) := by
  refine ci_call (ci := 0) (C := RX0) (T := TX0) (N := 8) (n := 0) F h (mX0_total l D ad ca n wt k lb pl up on bo  hn hk hb) (lw_V q161 q92 q93 q19 q94) (by decide +kernel) rfl rfl rfl hR ⟨Nat.zero_le _, Nat.zero_le _⟩ hl rfl hroom hdg (fun r w1 H1 locs1 hp hw => ?_)
  obtain ⟨up', rfl, rfl⟩ := hp
  exact kk up' H1 locs1 hw
set_option maxHeartbeats 4000000 in
set_option maxRecDepth 100000 in
theorem mX0_paths (l : Launch) (D : va_G) (ad : Nat → Nat) (ca : Nat → ClassId) (n : Nat) (wt : Nat → Int) (k : Nat) (lb : Nat → Nat) (pl : Int) (up : Nat → Int) (on : Nat → Int) (bo : Nat → Int)  (hn : n ≤ 6) (hk : k ≤ 4) (hb : ∀ j, lb j ≤ 3) : Ci l D (dt ca) yX0_paths cX0_paths 1 (some .int) 4 90 [.ref (ad 0)] (dw ad ca n wt k lb pl up on bo) (fun r w => ∃ (up' : Nat → Int), r = zI (tot (fun _ => 1) lb k n) ∧ w = dw ad ca n wt k lb 1 up' on bo) := by
  refine Ci.of (by decide) (Nat.le_of_ble_eq_true rfl) (by simp [Value.category]) ?_
  intro p e R s m args below meth c A Q ls hRf hRl F h hl ret
  have F : fx p m meth c s args cX0_paths 1 RX0 A := F
  refine z_aload_n F hl dX0_paths_0 rfl ?_
  refine z_iconst F dX0_paths_1 ?_
  refine dk_p4_1 F h dX0_paths_2 (fun H locs h => ?_)
  refine z_aload_n F hl dX0_paths_5 rfl ?_
  refine rX0_sumAll F h hl dX0_paths_6 (fun up' H locs h => ?_)
  exact ret _ _ _ _ _ _ dX0_paths_9 h ⟨up', rfl, rfl⟩
set_option maxHeartbeats 4000000 in
set_option maxRecDepth 100000 in
theorem mX0_bestFrom (l : Launch) (D : va_G) (ad : Nat → Nat) (ca : Nat → ClassId) (n : Nat) (wt : Nat → Int) (k : Nat) (lb : Nat → Nat) (pl : Int) (up : Nat → Int) (on : Nat → Int) (bo : Nat → Int) (j : Nat) (hj : j < 9) (hb : ∀ j, lb j ≤ 3) (hp : pl = 0) (ho : -1 ≤ bo j ∧ bo j ≤ 32768) : Ci l D (dt ca) yX0_bestFrom cX0_bestFrom 3 (some .int) 1 22 [.ref (ad 0), .int (zI (j : Int))] (dw ad ca n wt k lb pl up on bo) (fun r w => r = zI (if bo j < 0 then -1 else bo j * wt (mk lb j)) ∧ w = dw ad ca n wt k lb pl up on bo) := by
  refine Ci.of (by decide) (Nat.le_of_ble_eq_true rfl) (by simp [Value.category]) ?_
  intro p e R s m args below meth c A Q ls hRf hRl F h hl ret
  have F : fx p m meth c s args cX0_bestFrom 3 RX0 A := F
  subst hp
  have hmk := mk_le hb j
  refine z_aload_n F hl dX0_bestFrom_0 rfl ?_
  refine z_iload_n F hl dX0_bestFrom_1 rfl ?_
  refine rX0_markAt F h hl j dX0_bestFrom_2 (fun H locs h => ?_)
  refine z_istore_n F hl dX0_bestFrom_5 (fun ls hl => ?_)
  refine z_joinH h 32 (if bo j < 0 then -1 else bo j * wt (mk lb j)) (fun J => ?_) (fun H locs h => ?_)
  · refine z_aload_n F hl dX0_bestFrom_6 rfl ?_
    refine dk_g7 F h dX0_bestFrom_7 ?_
    refine z_iload_n F hl dX0_bestFrom_10 rfl ?_
    refine dk_l5 F h j dX0_bestFrom_11 ?_
    refine z_if_ge F 19 dX0_bestFrom_12 (fun c12 => ?_) (fun c12 => ?_)
    · refine z_aload_n F hl dX0_bestFrom_19 rfl ?_
      refine dk_g7 F h dX0_bestFrom_20 ?_
      refine z_iload_n F hl dX0_bestFrom_23 rfl ?_
      refine dk_l5 F h j dX0_bestFrom_24 ?_
      refine z_aload_n F hl dX0_bestFrom_25 rfl ?_
      refine z_iconst F dX0_bestFrom_26 ?_
      refine z_iload_n F hl dX0_bestFrom_27 rfl ?_
      refine rX0_weightOf F h hl 0 (mk lb j) dX0_bestFrom_28 (fun H locs h => ?_)
      refine z_imul F dX0_bestFrom_31 ?_
      refine J _ _ _ ?_ h
      rw [if_neg (by omega), ew_0, Nat.mul_zero, Nat.zero_add]
    · refine z_iconst F dX0_bestFrom_15 ?_
      refine z_goto F 32 dX0_bestFrom_16 ?_
      refine J _ _ _ ?_ h
      rw [if_pos (by omega)]
  · exact ret _ _ _ _ _ _ dX0_bestFrom_32 h ⟨rfl, rfl⟩
theorem rX0_bestFrom {p : Program} {l : Launch} {e : Env} {R : Room} {s : State} {m : MethodId} {args : Array Value} {below : List Frame} {meth : Method} {c : Code} {H : Heap} {locs : List Loc} {Q : State → Prop} {cc : ByteArray} {pc : Nat} {ls : Array Slot} {rest : List Value} {nL : Nat} {A : Nat → Prop} {vs : List (Option Value)} {D : va_G} {ad : Nat → Nat} {ca : Nat → ClassId} {n : Nat} {wt : Nat → Int} {k : Nat} {lb : Nat → Nat} {pl : Int} {up : Nat → Int} {on : Nat → Int} {bo : Nat → Int} (F : fx p m meth c s args cc nL RX0 A) (h : wh D (dw ad ca n wt k lb pl up on bo) (dt ca) A s H locs) (hl : lz ls nL vs) (j : Nat) {a0 : Int} (hdg : decode cc pc = .ok (.invokevirtual 69, 3)) (kk : ∀ (H1 : Heap) (locs1 : List Loc), wh D (dw ad ca n wt k lb pl up on bo) (dt ca) A s H1 locs1 → W p l e R s m args below meth c H1 locs1 0 0 Q (F0 m (pc + 3) ls (.int (zI (if bo j < 0 then -1 else bo j * wt (mk lb j))) :: rest))) (hj : j < 9 := by first | assumption | omega) (hb : ∀ j, lb j ≤ 3 := by first | assumption | omega) (hp : pl = 0 := by first | assumption | omega) (ho : -1 ≤ bo j ∧ bo j ≤ 32768 := by first | assumption | omega) (e0 : a0 = (j : Int) := by first | rfl | omega) (hR : 1 + 1 ≤ R.frames ∧ 8 + (3 + 11) + 22 ≤ R.locals := by omega) (hroom : (rest.map fun v => v.category).sum ≤ 8 := by exact Nat.le_of_ble_eq_true rfl) : W p l e R s m args below meth c H locs 0 0 Q (F0 m pc ls (.int (zI a0) :: .ref (ad 0) :: rest)) := by
  rw [e0]
  refine ci_call (ci := 0) (C := RX0) (T := TX0) (N := 8) (n := 1) F h (mX0_bestFrom l D ad ca n wt k lb pl up on bo j hj hb hp ho) (lw_V q135 q137 qs9 q19 q138) (by decide +kernel) rfl rfl rfl hR ⟨Nat.zero_le _, Nat.zero_le _⟩ hl rfl hroom hdg (fun r w1 H1 locs1 hp hw => ?_)
  obtain ⟨rfl, rfl⟩ := hp
  exact kk H1 locs1 hw
theorem mst_first {w x : Int} (hw : 0 ≤ w) : mst true w x (-1) = if x < 0 then -1 else x * w := by
  unfold mst
  by_cases hx : x < 0
  · rw [if_pos hx, if_neg (by omega)]
  · have := Int.mul_nonneg hw (show 0 ≤ x by omega)
    rw [if_neg hx, if_pos ⟨rfl, by omega, by omega⟩, Int.mul_comm]
theorem mst_next {b : Bool} {w x y : Int} (hy : -1 ≤ y) : mst b w x y = if y < (if b = true then (if x < 0 then -1 else x * w) else -1) then (if b = true then (if x < 0 then -1 else x * w) else -1) else y := by
  unfold mst
  cases b with
  | false =>
    have : ¬ y < -1 := by omega
    simp [this]
  | true =>
    rw [if_pos rfl]
    by_cases hx : x < 0
    · rw [if_pos hx, if_neg (by omega), if_neg (by omega)]
    · rw [if_neg hx, Int.mul_comm x w]
      by_cases h : y < w * x
      · rw [if_pos ⟨rfl, by omega, h⟩, if_pos h]
      · rw [if_neg (fun q => h q.2.2), if_neg h]
/-- the greatest weight of all, from the first frame's two places -/
theorem mx_first {wt : Nat → Int} (hw : ∀ j, 0 ≤ wt j ∧ wt j ≤ 8) (lb : Nat → Nat) (k n : Nat) (hn : 0 < n) (v y : Int)
    (hv : v = if Mx wt lb k n (n - 1) 0 < 0 then -1 else Mx wt lb k n (n - 1) 0 * wt (mk lb 0))
    (hy : y = if 0 < k then (if Mx wt lb k n (n - 1) 1 < 0 then -1 else Mx wt lb k n (n - 1) 1 * wt (mk lb 1)) else -1) : (if y ≤ v then v else y) = Mx wt lb k n n 0 := by
  obtain ⟨d, rfl⟩ : ∃ d, n = d + 1 := ⟨n - 1, by omega⟩
  have e1 : d + 1 - 1 - d = 0 := by omega
  have l0 : ld lb 0 0 = true := by simp [ld]
  have l1 : ld lb 0 (0 + 1) = true := by simp [ld]
  have l2 : ld lb 0 (0 + 2) = false := by simp [ld]
  rw [Mx, e1, l0, l1, l2, Bool.false_and, mst_f, Bool.true_and]
  simp only [Nat.mul_zero, Nat.zero_add]
  have hv : v = if Mx wt lb k (d + 1) d 0 < 0 then -1 else Mx wt lb k (d + 1) d 0 * wt (mk lb 0) := hv
  rw [mst_first (hw _).1, ← hv]
  have hv1 : -1 ≤ v := by
    rw [hv]; split
    · omega
    · have := Int.mul_nonneg (show 0 ≤ Mx wt lb k (d + 1) d 0 by omega) (hw (mk lb 0)).1
      omega
  rw [mst_next hv1]
  have hy2 : y = if decide (1 ≤ 2 * k) = true then (if Mx wt lb k (d + 1) d 1 < 0 then -1 else Mx wt lb k (d + 1) d 1 * wt (mk lb 1)) else -1 := by
    rw [hy]
    by_cases hk : 0 < k
    · rw [if_pos hk, if_pos (decide_eq_true (by omega))]; rfl
    · rw [if_neg hk, if_neg (by rw [decide_eq_false (by omega)]; decide)]
  rw [← hy2]
  by_cases h : y ≤ v
  · rw [if_pos h, if_neg (by omega)]
  · rw [if_neg h, if_pos (by omega)]
set_option maxHeartbeats 4000000 in
set_option maxRecDepth 100000 in
theorem mX0_greatest (l : Launch) (D : va_G) (ad : Nat → Nat) (ca : Nat → ClassId) (n : Nat) (wt : Nat → Int) (k : Nat) (lb : Nat → Nat) (pl : Int) (up : Nat → Int) (on : Nat → Int) (bo : Nat → Int)  (hn : n ≤ 6) (hk : k ≤ 4) (hb : ∀ j, lb j ≤ 3) (hw : ∀ j, 0 ≤ wt j ∧ wt j ≤ 8) : Ci l D (dt ca) yX0_greatest cX0_greatest 3 (some .int) 3 71 [.ref (ad 0)] (dw ad ca n wt k lb pl up on bo) (fun r w => ∃ (on' : Nat → Int), ∃ (bo' : Nat → Int), r = zI (Mx wt lb k n n 0) ∧ w = dw ad ca n wt k lb 0 up on' bo' ∧ (∀ t s, t < n → s ≤ 2 * k → bo' (9 * t + s) = Mx wt lb k n (n - 1 - t) s)) := by
  refine Ci.of (by decide) (Nat.le_of_ble_eq_true rfl) (by simp [Value.category]) ?_
  intro p e R s m args below meth c A Q ls hRf hRl F h hl ret
  have F : fx p m meth c s args cX0_greatest 3 RX0 A := F
  refine z_aload_n F hl dX0_greatest_0 rfl ?_
  refine z_iconst F dX0_greatest_1 ?_
  refine dk_p4_0 F h dX0_greatest_2 (fun H locs h => ?_)
  refine z_aload_n F hl dX0_greatest_5 rfl ?_
  refine dk_g0 F h dX0_greatest_6 ?_
  refine z_if_ne F 25 dX0_greatest_9 (fun c9 => ?_) (fun c9 => ?_)
  · refine z_aload_n F hl dX0_greatest_25 rfl ?_
    refine rX0_carryBack F h hl dX0_greatest_26 (fun on' bo' H locs hU h => ?_)
    have hM : ∀ s, s ≤ 2 * k → bo' s = Mx wt lb k n (n - 1) s := fun s hs => by
      have := (hU 0 s (by omega) hs).2
      rw [Nat.mul_zero, Nat.zero_add, ew_0] at this
      exact this
    have b0 : -1 ≤ bo' 0 ∧ bo' 0 ≤ 32768 := by rw [hM 0 (by omega)]; exact mx_32768 hw lb k n (by omega) 0
    have b1 : 0 < k → -1 ≤ bo' 1 ∧ bo' 1 ≤ 32768 := fun hk => by rw [hM 1 (by omega)]; exact mx_32768 hw lb k n (by omega) 1
    refine z_aload_n F hl dX0_greatest_29 rfl ?_
    refine z_iconst F dX0_greatest_30 ?_
    refine rX0_bestFrom F h hl 0 dX0_greatest_31 (fun H locs h => ?_)
    refine z_istore_n F hl dX0_greatest_34 (fun ls hl => ?_)
    refine z_joinH h 51 (if 0 < k then (if bo' 1 < 0 then -1 else bo' 1 * wt (mk lb 1)) else -1) (fun J => ?_) (fun H locs h => ?_)
    · refine z_aload_n F hl dX0_greatest_35 rfl ?_
      refine dk_g2 F h dX0_greatest_36 ?_
      refine z_if_le F 50 dX0_greatest_39 (fun c39 => ?_) (fun c39 => ?_)
      · refine z_iconst F dX0_greatest_50 ?_
        exact J _ _ _ (by rw [if_neg (by omega)]) h
      · have b1 := b1 (by omega)
        refine z_aload_n F hl dX0_greatest_42 rfl ?_
        refine z_iconst F dX0_greatest_43 ?_
        refine rX0_bestFrom F h hl 1 dX0_greatest_44 (fun H locs h => ?_)
        refine z_goto F 51 dX0_greatest_47 ?_
        exact J _ _ _ (by rw [if_pos (show 0 < k by omega)]) h
    · refine z_istore_n F hl dX0_greatest_51 (fun ls hl => ?_)
      have f0 : -8 ≤ (if bo' 0 < 0 then -1 else bo' 0 * wt (mk lb 0)) ∧ (if bo' 0 < 0 then -1 else bo' 0 * wt (mk lb 0)) ≤ 262144 := by
        split
        · omega
        · rw [Int.mul_comm]; exact wx_bd (hw _) b0
      have f1 : -8 ≤ (if 0 < k then (if bo' 1 < 0 then -1 else bo' 1 * wt (mk lb 1)) else -1) ∧ (if 0 < k then (if bo' 1 < 0 then -1 else bo' 1 * wt (mk lb 1)) else -1) ≤ 262144 := by
        by_cases hk : 0 < k
        · rw [if_pos hk]
          split
          · omega
          · rw [Int.mul_comm]; exact wx_bd (hw _) (b1 hk)
        · rw [if_neg hk]; omega
      have key := mx_first hw lb k n (by omega) (if bo' 0 < 0 then -1 else bo' 0 * wt (mk lb 0)) (if 0 < k then (if bo' 1 < 0 then -1 else bo' 1 * wt (mk lb 1)) else -1) (by rw [hM 0 (by omega)]) (by
        by_cases hk : 0 < k
        · rw [if_pos hk, if_pos hk, hM 1 (by omega)]
        · rw [if_neg hk, if_neg hk])
      generalize (if bo' 0 < 0 then -1 else bo' 0 * wt (mk lb 0)) = v at hl f0 key
      generalize (if 0 < k then (if bo' 1 < 0 then -1 else bo' 1 * wt (mk lb 1)) else -1) = y at hl f1 key
      refine z_join 62 (Mx wt lb k n n 0) (fun J => ?_) ?_
      · refine z_iload_n F hl dX0_greatest_52 rfl ?_
        refine z_iload_n F hl dX0_greatest_53 rfl ?_
        refine z_icmp_le F 61 dX0_greatest_54 (fun c54 => ?_) (fun c54 => ?_)
        · refine z_iload_n F hl dX0_greatest_61 rfl ?_
          refine J _ ?_
          rw [← key, if_pos (by omega)]
        · refine z_iload_n F hl dX0_greatest_57 rfl ?_
          refine z_goto F 62 dX0_greatest_58 ?_
          refine J _ ?_
          rw [← key, if_neg (by omega)]
      · exact ret _ _ _ _ _ _ dX0_greatest_62 h ⟨on', bo', rfl, rfl, fun t s ht hs => by have := (hU t s ht hs).2; rw [ew_0] at this; exact this⟩
  · refine z_join 24 (Mx wt lb k n n 0) (fun J => ?_) ?_
    · refine z_aload_n F hl dX0_greatest_12 rfl ?_
      refine dk_g2 F h dX0_greatest_13 ?_
      refine z_if_ne F 23 dX0_greatest_16 (fun c16 => ?_) (fun c16 => ?_)
      · refine z_iconst F dX0_greatest_23 ?_
        refine J _ ?_
        rw [show n = 0 by omega, Mx, if_neg (by omega)]
      · refine z_iconst F dX0_greatest_19 ?_
        refine z_goto F 24 dX0_greatest_20 ?_
        refine J _ ?_
        rw [show n = 0 by omega, Mx, if_pos (by omega)]
    · exact ret _ _ _ _ _ _ dX0_greatest_24 h ⟨on, bo, rfl, rfl, fun t s ht => absurd ht (by omega)⟩
theorem rX0_greatest {p : Program} {l : Launch} {e : Env} {R : Room} {s : State} {m : MethodId} {args : Array Value} {below : List Frame} {meth : Method} {c : Code} {H : Heap} {locs : List Loc} {Q : State → Prop} {cc : ByteArray} {pc : Nat} {ls : Array Slot} {rest : List Value} {nL : Nat} {A : Nat → Prop} {vs : List (Option Value)} {D : va_G} {ad : Nat → Nat} {ca : Nat → ClassId} {n : Nat} {wt : Nat → Int} {k : Nat} {lb : Nat → Nat} {pl : Int} {up : Nat → Int} {on : Nat → Int} {bo : Nat → Int} (F : fx p m meth c s args cc nL RX0 A) (h : wh D (dw ad ca n wt k lb pl up on bo) (dt ca) A s H locs) (hl : lz ls nL vs)  (hdg : decode cc pc = .ok (.invokevirtual 72, 3)) (kk : ∀ (on' : Nat → Int) (bo' : Nat → Int) (H1 : Heap) (locs1 : List Loc), (∀ t s, t < n → s ≤ 2 * k → bo' (9 * t + s) = Mx wt lb k n (n - 1 - t) s) → wh D (dw ad ca n wt k lb 0 up on' bo') (dt ca) A s H1 locs1 → W p l e R s m args below meth c H1 locs1 0 0 Q (F0 m (pc + 3) ls (.int (zI (Mx wt lb k n n 0)) :: rest))) (hn : n ≤ 6 := by first | assumption | omega) (hk : k ≤ 4 := by first | assumption | omega) (hb : ∀ j, lb j ≤ 3 := by first | assumption | omega) (hw : ∀ j, 0 ≤ wt j ∧ wt j ≤ 8 := by first | assumption | omega) (hR : 3 + 1 ≤ R.frames ∧ 8 + (3 + 11) + 71 ≤ R.locals := by omega) (hroom : (rest.map fun v => v.category).sum ≤ 8 := by exact Nat.le_of_ble_eq_true rfl) : W p l e R s m args below meth c H locs 0 0 Q (F0 m pc ls (.ref (ad 0) :: rest)) := by
  refine ci_call (ci := 0) (C := RX0) (T := TX0) (N := 8) (n := 0) F h (mX0_greatest l D ad ca n wt k lb pl up on bo  hn hk hb hw) (lw_V q127 q129 qs7 q19 q130) (by decide +kernel) rfl rfl rfl hR ⟨Nat.zero_le _, Nat.zero_le _⟩ hl rfl hroom hdg (fun r w1 H1 locs1 hp hw => ?_)
  obtain ⟨on', bo', rfl, rfl, hP⟩ := hp
  exact kk on' bo' H1 locs1 hP hw
set_option maxHeartbeats 4000000 in
set_option maxRecDepth 100000 in
theorem mX0_best (l : Launch) (D : va_G) (ad : Nat → Nat) (ca : Nat → ClassId) (n : Nat) (wt : Nat → Int) (k : Nat) (lb : Nat → Nat) (pl : Int) (up : Nat → Int) (on : Nat → Int) (bo : Nat → Int)  (hn : n ≤ 6) (hk : k ≤ 4) (hb : ∀ j, lb j ≤ 3) (hw : ∀ j, 0 ≤ wt j ∧ wt j ≤ 8) : Ci l D (dt ca) yX0_best cX0_best 2 (some .int) 4 93 [.ref (ad 0)] (dw ad ca n wt k lb pl up on bo) (fun r w => ∃ (on' : Nat → Int), ∃ (bo' : Nat → Int), r = zI (if Mx wt lb k n n 0 < 0 then 0 else Mx wt lb k n n 0) ∧ w = dw ad ca n wt k lb 0 up on' bo') := by
  refine Ci.of (by decide) (Nat.le_of_ble_eq_true rfl) (by simp [Value.category]) ?_
  intro p e R s m args below meth c A Q ls hRf hRl F h hl ret
  have F : fx p m meth c s args cX0_best 2 RX0 A := F
  refine z_aload_n F hl dX0_best_0 rfl ?_
  refine rX0_greatest F h hl dX0_best_1 (fun on' bo' H locs hU h => ?_)
  have hM := mx_bd hw lb k n n 0
  have h8 : 8 ^ n ≤ 8 ^ 6 := Nat.pow_le_pow_right (by decide) hn
  refine z_istore_n F hl dX0_best_4 (fun ls hl => ?_)
  refine z_join 14 (if Mx wt lb k n n 0 < 0 then 0 else Mx wt lb k n n 0) (fun J => ?_) ?_
  · refine z_iload_n F hl dX0_best_5 rfl ?_
    refine z_if_ge F 13 dX0_best_6 (fun c6 => ?_) (fun c6 => ?_)
    · refine z_iload_n F hl dX0_best_13 rfl ?_
      exact J _ (by rw [if_neg (by omega)])
    · refine z_iconst F dX0_best_9 ?_
      refine z_goto F 14 dX0_best_10 ?_
      exact J _ (by rw [if_pos (by omega)])
  · exact ret _ _ _ _ _ _ dX0_best_14 h ⟨on', bo', rfl, rfl⟩
set_option maxHeartbeats 4000000 in
set_option maxRecDepth 100000 in
theorem mX0_through (l : Launch) (D : va_G) (ad : Nat → Nat) (ca : Nat → ClassId) (n : Nat) (wt : Nat → Int) (k : Nat) (lb : Nat → Nat) (pl : Int) (up : Nat → Int) (on : Nat → Int) (bo : Nat → Int) (x y : Int) (hx : -2147483648 ≤ x ∧ x < 2147483648) (hy : -2147483648 ≤ y ∧ y < 2147483648) (hn : n ≤ 6) (hk : k ≤ 4) (hb : ∀ j, lb j ≤ 3) (hp : pl = 0 ∨ pl = 1) (hw : ∀ j, 0 ≤ wt j ∧ wt j ≤ 8) : Ci l D (dt ca) yX0_through cX0_through 5 (some .int) 3 71 [.ref (ad 0), .int (zI x), .int (zI y)] (dw ad ca n wt k lb pl up on bo) (fun r w => ∃ (pl' : Int), ∃ (up' : Nat → Int), ∃ (on' : Nat → Int), ∃ (bo' : Nat → Int), r = zI (thR wt lb k n x y) ∧ w = dw ad ca n wt k lb pl' up' on' bo' ∧ (pl' = 0 ∨ pl' = 1)) := by
  refine Ci.of (by decide) (Nat.le_of_ble_eq_true rfl) (by simp [Value.category]) ?_
  intro p e R s m args below meth c A Q ls hRf hRl F h hl ret
  have F : fx p m meth c s args cX0_through 5 RX0 A := F
  refine z_aload_n F hl dX0_through_0 rfl ?_
  refine z_iload_n F hl dX0_through_1 rfl ?_
  refine rX0_isFrame F h hl x dX0_through_2 (fun H locs h => ?_)
  refine z_if_eq F 15 dX0_through_5 (fun c5 => ?_) (fun c5 => ?_) (bz_in _)
  · have c5 := bz_d0 c5
    refine z_iconst F dX0_through_15 ?_
    refine ret _ _ _ _ _ _ dX0_through_16 h ⟨pl, up, on, bo, ?_, rfl, hp⟩
    rw [thR, if_neg (fun q => c5 q.1)]
  · have c5 := bz_d1 c5
    refine z_iload_n F hl dX0_through_8 rfl ?_
    refine rX0_isMark F h hl y dX0_through_9 (fun H locs h => ?_)
    refine z_if_ne F 17 dX0_through_12 (fun c12 => ?_) (fun c12 => ?_) (bz_in _)
    · have c12 := bz_d1 c12
      refine z_aload_n F hl dX0_through_17 rfl ?_
      refine z_iconst F dX0_through_18 ?_
      refine dk_p4_0 F h dX0_through_19 (fun H locs h => ?_)
      refine z_aload_n F hl dX0_through_22 rfl ?_
      refine rX0_carryOn F h hl dX0_through_23 (fun up' H locs hU h => ?_)
      refine z_aload_n F hl dX0_through_26 rfl ?_
      refine rX0_carryBack F h hl dX0_through_27 (fun on' bo' H locs hB h => ?_)
      refine z_iconst F dX0_through_30 ?_
      refine z_istore_n F hl dX0_through_31 (fun ls hl => ?_)
      refine z_iconst F dX0_through_32 ?_
      refine z_istore F hl dX0_through_33 (fun ls hl => ?_)
      have L : ∀ (d j : Nat) (z : Int) (H : Heap) (locs : List Loc) (ls : Array Slot), j + d = 2 * k + 1 → z = sm (fun s => if ((mk lb s : Nat) : Int) = y then Vf wt lb (x.toNat + 1) s * Bk wt lb k n (n - 1 - x.toNat) s else 0) j → wh D (dw ad ca n wt k lb 0 up' on' bo') (dt ca) A s H locs → lz ls 5 [some (.ref (ad 0)), some (.int (zI x)), some (.int (zI y)), some (.int (zI z)), some (.int (zI j))] → W p l e R s m args below meth c H locs 0 0 Q (F0 m 35 ls []) := by
        intro d
        induction d with
        | zero =>
          intro j z H locs ls hj hz h hl
          refine z_iload F hl dX0_through_35 rfl ?_
          refine z_iconst F dX0_through_37 ?_
          refine z_aload_n F hl dX0_through_38 rfl ?_
          refine dk_g2 F h dX0_through_39 ?_
          refine z_imul F dX0_through_42 ?_
          refine z_icmp_gt F 94 dX0_through_43 (fun c43 => ?_) (fun c43 => ?_)
          · refine z_iload_n F hl dX0_through_94 rfl ?_
            refine ret _ _ _ _ _ _ dX0_through_95 h ⟨0, up', on', bo', ?_, rfl, Or.inl rfl⟩
            rw [hz, thR, if_pos ⟨c5, c12⟩, show j = 2 * k + 1 by omega]
          · exact absurd c43 (by omega)
        | succ d ih =>
          intro j z H locs ls hj hz h hl
          have hmk := mk_le hb j
          refine z_iload F hl dX0_through_35 rfl ?_
          refine z_iconst F dX0_through_37 ?_
          refine z_aload_n F hl dX0_through_38 rfl ?_
          refine dk_g2 F h dX0_through_39 ?_
          refine z_imul F dX0_through_42 ?_
          refine z_icmp_gt F 94 dX0_through_43 (fun c43 => ?_) (fun c43 => ?_)
          · exact absurd c43 (by omega)
          · refine z_iload_n F hl dX0_through_46 rfl ?_
            refine z_joinH h 86 (if ((mk lb j : Nat) : Int) = y then Vf wt lb (x.toNat + 1) j * Bk wt lb k n (n - 1 - x.toNat) j else 0) (fun J => ?_) (fun H locs h => ?_)
            · refine z_aload_n F hl dX0_through_47 rfl ?_
              refine z_iload F hl dX0_through_48 rfl ?_
              refine rX0_markAt F h hl j dX0_through_50 (fun H locs h => ?_)
              refine z_iload_n F hl dX0_through_53 rfl ?_
              refine z_icmp_ne F 85 dX0_through_54 (fun c54 => ?_) (fun c54 => ?_)
              · refine z_iconst F dX0_through_85 ?_
                exact J _ _ _ (by rw [if_neg c54]) h
              · refine z_aload_n F hl dX0_through_57 rfl ?_
                refine dk_g5 F h dX0_through_58 ?_
                refine z_iload_n F hl dX0_through_61 rfl ?_
                refine z_bipush F dX0_through_62 ?_
                refine z_imul F dX0_through_64 ?_
                refine z_iload F hl dX0_through_65 rfl ?_
                refine z_iadd F dX0_through_67 ?_
                refine dk_l3 F h (9 * x.toNat + j) dX0_through_68 ?_
                refine z_aload_n F hl dX0_through_69 rfl ?_
                refine dk_g6 F h dX0_through_70 ?_
                refine z_iload_n F hl dX0_through_73 rfl ?_
                refine z_bipush F dX0_through_74 ?_
                refine z_imul F dX0_through_76 ?_
                refine z_iload F hl dX0_through_77 rfl ?_
                refine z_iadd F dX0_through_79 ?_
                refine dk_l4 F h (9 * x.toNat + j) dX0_through_80 ?_
                refine z_imul F dX0_through_81 ?_
                refine z_goto F 86 dX0_through_82 ?_
                refine J _ _ _ ?_ h
                rw [if_pos c54, hU x.toNat j (by omega) (by omega), (hB x.toNat j (by omega) (by omega)).1, ew_0]
            · refine z_iadd F dX0_through_86 ?_
              refine z_istore_n F hl dX0_through_87 (fun ls hl => ?_)
              refine z_iinc F hl ((j + 1 : Nat) : Int) dX0_through_88 rfl (fun ls hl => ?_)
              refine z_goto F 35 dX0_through_91 ?_
              refine ih (j + 1) _ H locs ls (by omega) ?_ h hl
              rw [hz]; rfl
      exact L (2 * k + 1) 0 0 H locs ls (by omega) rfl h hl
    · have c12 := bz_d0 c12
      refine z_iconst F dX0_through_15 ?_
      refine ret _ _ _ _ _ _ dX0_through_16 h ⟨pl, up, on, bo, ?_, rfl, hp⟩
      rw [thR, if_neg (fun q => c12 q.2)]
set_option maxHeartbeats 4000000 in
set_option maxRecDepth 100000 in
theorem mX0_everything (l : Launch) (D : va_G) (ad : Nat → Nat) (ca : Nat → ClassId) (n : Nat) (wt : Nat → Int) (k : Nat) (lb : Nat → Nat) (pl : Int) (up : Nat → Int) (on : Nat → Int) (bo : Nat → Int)  (hn : n ≤ 6) : Ci l D (dt ca) yX0_everything cX0_everything 3 (some .int) 1 23 [.ref (ad 0)] (dw ad ca n wt k lb pl up on bo) (fun r w => r = zI (pdn (fsm wt) n) ∧ w = dw ad ca n wt k lb pl up on bo) := by
  refine Ci.of (by decide) (Nat.le_of_ble_eq_true rfl) (by simp [Value.category]) ?_
  intro p e R s m args below meth c A Q ls hRf hRl F h hl ret
  have F : fx p m meth c s args cX0_everything 3 RX0 A := F
  refine z_iconst F dX0_everything_0 ?_
  refine z_istore_n F hl dX0_everything_1 (fun ls hl => ?_)
  refine z_iconst F dX0_everything_2 ?_
  refine z_istore_n F hl dX0_everything_3 (fun ls hl => ?_)
  have L : ∀ (d j : Nat) (z : Int) (H : Heap) (locs : List Loc) (ls : Array Slot), j + d = n → z = pdn (fsm wt) j → wh D (dw ad ca n wt k lb pl up on bo) (dt ca) A s H locs → lz ls 3 [some (.ref (ad 0)), some (.int (zI z)), some (.int (zI j))] → W p l e R s m args below meth c H locs 0 0 Q (F0 m 4 ls []) := by
    intro d
    induction d with
    | zero =>
      intro j z H locs ls hj hz h hl
      refine z_iload_n F hl dX0_everything_4 rfl ?_
      refine z_aload_n F hl dX0_everything_5 rfl ?_
      refine dk_g0 F h dX0_everything_6 ?_
      refine z_icmp_ge F 26 dX0_everything_9 (fun c9 => ?_) (fun c9 => ?_)
      · refine z_iload_n F hl dX0_everything_26 rfl ?_
        refine ret _ _ _ _ _ _ dX0_everything_27 h ⟨?_, rfl⟩
        rw [hz, show j = n by omega]
      · exact absurd c9 (by omega)
    | succ d ih =>
      intro j z H locs ls hj hz h hl
      refine z_iload_n F hl dX0_everything_4 rfl ?_
      refine z_aload_n F hl dX0_everything_5 rfl ?_
      refine dk_g0 F h dX0_everything_6 ?_
      refine z_icmp_ge F 26 dX0_everything_9 (fun c9 => ?_) (fun c9 => ?_)
      · exact absurd c9 (by omega)
      · refine z_iload_n F hl dX0_everything_12 rfl ?_
        refine z_aload_n F hl dX0_everything_13 rfl ?_
        refine z_iload_n F hl dX0_everything_14 rfl ?_
        refine rX0_frameSum F h hl j dX0_everything_15 (fun H locs h => ?_)
        refine z_imul F dX0_everything_18 ?_
        refine z_istore_n F hl dX0_everything_19 (fun ls hl => ?_)
        refine z_iinc F hl ((j + 1 : Nat) : Int) dX0_everything_20 rfl (fun ls hl => ?_)
        refine z_goto F 4 dX0_everything_23 ?_
        refine ih (j + 1) _ H locs ls (by omega) ?_ h hl
        rw [hz]; rfl
  exact L n 0 1 _ _ ls (by omega) rfl h hl
theorem rX0_everything {p : Program} {l : Launch} {e : Env} {R : Room} {s : State} {m : MethodId} {args : Array Value} {below : List Frame} {meth : Method} {c : Code} {H : Heap} {locs : List Loc} {Q : State → Prop} {cc : ByteArray} {pc : Nat} {ls : Array Slot} {rest : List Value} {nL : Nat} {A : Nat → Prop} {vs : List (Option Value)} {D : va_G} {ad : Nat → Nat} {ca : Nat → ClassId} {n : Nat} {wt : Nat → Int} {k : Nat} {lb : Nat → Nat} {pl : Int} {up : Nat → Int} {on : Nat → Int} {bo : Nat → Int} (F : fx p m meth c s args cc nL RX0 A) (h : wh D (dw ad ca n wt k lb pl up on bo) (dt ca) A s H locs) (hl : lz ls nL vs)  (hdg : decode cc pc = .ok (.invokevirtual 75, 3)) (kk : ∀ (H1 : Heap) (locs1 : List Loc), wh D (dw ad ca n wt k lb pl up on bo) (dt ca) A s H1 locs1 → W p l e R s m args below meth c H1 locs1 0 0 Q (F0 m (pc + 3) ls (.int (zI (pdn (fsm wt) n)) :: rest))) (hn : n ≤ 6 := by first | assumption | omega) (hR : 1 + 1 ≤ R.frames ∧ 8 + (3 + 11) + 23 ≤ R.locals := by omega) (hroom : (rest.map fun v => v.category).sum ≤ 8 := by exact Nat.le_of_ble_eq_true rfl) : W p l e R s m args below meth c H locs 0 0 Q (F0 m pc ls (.ref (ad 0) :: rest)) := by
  refine ci_call (ci := 0) (C := RX0) (T := TX0) (N := 8) (n := 0) F h (mX0_everything l D ad ca n wt k lb pl up on bo  hn) (lw_V q147 q148 q149 q19 q150) (by decide +kernel) rfl rfl rfl hR ⟨Nat.zero_le _, Nat.zero_le _⟩ hl rfl hroom hdg (fun r w1 H1 locs1 hp hw => ?_)
  obtain ⟨rfl, rfl⟩ := hp
  exact kk H1 locs1 hw
end
section
/-! THE DESK: first arrivals, bestNext -/
theorem pf_sum (w up : Nat → Int) (lb : Nat → Nat) (k t : Nat) (hk : 0 < k) (hI : ∀ s, s ≤ 2 * k → 0 < t → up (9 * (t - 1) + s) = Vf w lb t s) : bz (decide (t = 0 ∧ 2 * k - 1 = 1)) + cmt up lb t (2 * k - 1) ((2 * (k : Int) - 1) - 2) + cmt up lb t (2 * k - 1) ((2 * (k : Int) - 1) - 2 + 1) = pfA w lb k t := by
  have l1 : ld lb (2 * k - 2) (2 * k - 1) = true := by unfold ld; exact decide_eq_true (Or.inr (Or.inl (by omega)))
  cases t with
  | zero =>
    have c0 : ∀ r, cmt up lb 0 (2 * k - 1) r = 0 := fun r => by simp [cmt]
    rw [c0, c0, pfA, if_pos l1, Vf, Vf]
    by_cases h1 : k = 1
    · subst h1; simp [bz]
    · rw [if_neg (show ¬ 2 * k - 3 = 0 by omega), if_neg (show ¬ 2 * k - 2 = 0 by omega), ← bz_df (by omega)]
      simp
  | succ t =>
    have b0 : bz (decide (t + 1 = 0 ∧ 2 * k - 1 = 1)) = 0 := by simp [bz]
    rw [b0, pfA, if_pos l1]
    have e2 : cmt up lb (t + 1) (2 * k - 1) ((2 * (k : Int) - 1) - 2 + 1) = Vf w lb (t + 1) (2 * k - 2) := by
      unfold cmt
      rw [show ((2 * (k : Int) - 1) - 2 + 1).toNat = 2 * k - 2 by omega, if_pos ⟨by omega, l1⟩, hI _ (by omega) (by omega)]
    have e1 : cmt up lb (t + 1) (2 * k - 1) ((2 * (k : Int) - 1) - 2) = if 2 ≤ k ∧ ld lb (2 * k - 3) (2 * k - 1) = true then Vf w lb (t + 1) (2 * k - 3) else 0 := by
      unfold cmt
      by_cases h2 : 2 ≤ k
      · rw [show ((2 * (k : Int) - 1) - 2).toNat = 2 * k - 3 by omega]
        by_cases h3 : ld lb (2 * k - 3) (2 * k - 1) = true
        · rw [if_pos ⟨by omega, h3⟩, if_pos ⟨h2, h3⟩, hI _ (by omega) (by omega)]
        · rw [if_neg (fun q => h3 q.2), if_neg (fun q => h3 q.2)]
      · rw [if_neg (by omega), if_neg (by omega)]
    rw [e1, e2]
    omega
set_option maxHeartbeats 4000000 in
set_option maxRecDepth 100000 in
theorem mX0_prefix (l : Launch) (D : va_G) (ad : Nat → Nat) (ca : Nat → ClassId) (n : Nat) (wt : Nat → Int) (k : Nat) (lb : Nat → Nat) (pl : Int) (up : Nat → Int) (on : Nat → Int) (bo : Nat → Int)  (hn : n ≤ 6) (hk : k ≤ 4) (hb : ∀ j, lb j ≤ 3) (hp : pl = 0 ∨ pl = 1) : Ci l D (dt ca) yX0_prefix cX0_prefix 8 (some .int) 3 68 [.ref (ad 0)] (dw ad ca n wt k lb pl up on bo) (fun r w => ∃ (pl' : Int), ∃ (up' : Nat → Int), r = zI (pfR wt lb k n) ∧ w = dw ad ca n wt k lb pl' up' on bo ∧ (pl' = 0 ∨ pl' = 1)) := by
  refine Ci.of (by decide) (Nat.le_of_ble_eq_true rfl) (by simp [Value.category]) ?_
  intro p e R s m args below meth c A Q ls hRf hRl F h hl ret
  have F : fx p m meth c s args cX0_prefix 8 RX0 A := F
  refine z_aload_n F hl dX0_prefix_0 rfl ?_
  refine dk_g2 F h dX0_prefix_1 ?_
  refine z_if_ne F 12 dX0_prefix_4 (fun c4 => ?_) (fun c4 => ?_)
  · refine z_aload_n F hl dX0_prefix_12 rfl ?_
    refine z_iconst F dX0_prefix_13 ?_
    refine dk_p4_0 F h dX0_prefix_14 (fun H locs h => ?_)
    refine z_aload_n F hl dX0_prefix_17 rfl ?_
    refine rX0_carryOn F h hl dX0_prefix_18 (fun up' H locs hU h => ?_)
    have hU : ∀ t s, t < n → s ≤ 2 * k → up' (9 * t + s) = Vf wt lb (t + 1) s := fun t s h1 h2 => by
      have := hU t s h1 h2
      rw [ew_0] at this
      exact this
    refine z_iconst F dX0_prefix_21 ?_
    refine z_aload_n F hl dX0_prefix_22 rfl ?_
    refine dk_g2 F h dX0_prefix_23 ?_
    refine z_imul F dX0_prefix_26 ?_
    refine z_iconst F dX0_prefix_27 ?_
    refine z_isub F dX0_prefix_28 ?_
    refine z_istore_n F hl dX0_prefix_29 (fun ls hl => ?_)
    refine z_aload_n F hl dX0_prefix_30 rfl ?_
    refine z_iload_n F hl dX0_prefix_31 rfl ?_
    refine rX0_markAt F h hl (2 * k - 1) dX0_prefix_32 (fun H locs h => ?_)
    have hmk := mk_le hb (2 * k - 1)
    refine z_istore_n F hl dX0_prefix_35 (fun ls hl => ?_)
    refine z_iconst F dX0_prefix_36 ?_
    refine z_istore_n F hl dX0_prefix_37 (fun ls hl => ?_)
    refine z_iconst F dX0_prefix_38 ?_
    refine z_istore F hl dX0_prefix_39 (fun ls hl => ?_)
    have outer : ∀ (d t : Nat) (z : Int) (H : Heap) (locs : List Loc) (ls : Array Slot), t + d = n → z = sm (fun t => pfA wt lb k t * wt (4 * t + mk lb (2 * k - 1)) * pdr (fsm wt) (t + 1) (n - 1 - t)) t → wh D (dw ad ca n wt k lb 0 up' on bo) (dt ca) A s H locs → lz ls 8 [some (.ref (ad 0)), some (.int (zI (2 * (k : Int) - 1))), some (.int (zI ((mk lb (2 * k - 1) : Nat) : Int))), some (.int (zI z)), some (.int (zI t)), none, none, none] → W p l e R s m args below meth c H locs 0 0 Q (F0 m 41 ls []) := by
      intro d
      induction d with
      | zero =>
        intro t z H locs ls ht hz h hl
        refine z_iload F hl dX0_prefix_41 rfl ?_
        refine z_aload_n F hl dX0_prefix_43 rfl ?_
        refine dk_g0 F h dX0_prefix_44 ?_
        refine z_icmp_ge F 195 dX0_prefix_47 (fun c47 => ?_) (fun c47 => ?_)
        · refine z_iload_n F hl dX0_prefix_195 rfl ?_
          refine ret _ _ _ _ _ _ dX0_prefix_196 h ⟨0, up', ?_, rfl, Or.inl rfl⟩
          rw [hz, pfR, if_neg (by omega), show t = n by omega]
        · exact absurd c47 (by omega)
      | succ d ih =>
        intro t z H locs ls ht hz h hl
        refine z_iload F hl dX0_prefix_41 rfl ?_
        refine z_aload_n F hl dX0_prefix_43 rfl ?_
        refine dk_g0 F h dX0_prefix_44 ?_
        refine z_icmp_ge F 195 dX0_prefix_47 (fun c47 => ?_) (fun c47 => ?_)
        · exact absurd c47 (by omega)
        · refine z_join 65 (bz (decide (t = 0 ∧ 2 * k - 1 = 1))) (fun J => ?_) ?_
          · refine z_iload F hl dX0_prefix_50 rfl ?_
            refine z_if_ne F 64 dX0_prefix_52 (fun c52 => ?_) (fun c52 => ?_)
            · refine z_iconst F dX0_prefix_64 ?_
              exact J _ (bz_df (by omega))
            · refine z_iload_n F hl dX0_prefix_55 rfl ?_
              refine z_iconst F dX0_prefix_56 ?_
              refine z_icmp_ne F 64 dX0_prefix_57 (fun c57 => ?_) (fun c57 => ?_)
              · refine z_iconst F dX0_prefix_64 ?_
                exact J _ (bz_df (by omega))
              · refine z_iconst F dX0_prefix_60 ?_
                refine z_goto F 65 dX0_prefix_61 ?_
                exact J _ (bz_dt (by omega))
          · refine z_istore F hl dX0_prefix_65 (fun ls hl => ?_)
            refine z_iload_n F hl dX0_prefix_67 rfl ?_
            refine z_iconst F dX0_prefix_68 ?_
            refine z_isub F dX0_prefix_69 ?_
            refine z_istore F hl dX0_prefix_70 (fun ls hl => ?_)
            have st : ∀ (r x : Int) (H : Heap) (locs : List Loc) (ls : Array Slot), ((2 * (k : Int) - 1) - 2 ≤ r ∧ r < 2 * (k : Int) - 1) → wh D (dw ad ca n wt k lb 0 up' on bo) (dt ca) A s H locs → lz ls 8 [some (.ref (ad 0)), some (.int (zI (2 * (k : Int) - 1))), some (.int (zI ((mk lb (2 * k - 1) : Nat) : Int))), some (.int (zI z)), some (.int (zI t)), some (.int (zI x)), some (.int (zI r)), none] → (∀ (H : Heap) (locs : List Loc) (ls : Array Slot), wh D (dw ad ca n wt k lb 0 up' on bo) (dt ca) A s H locs → lz ls 8 [some (.ref (ad 0)), some (.int (zI (2 * (k : Int) - 1))), some (.int (zI ((mk lb (2 * k - 1) : Nat) : Int))), some (.int (zI z)), some (.int (zI t)), some (.int (zI (x + cmt up' lb t (2 * k - 1) r))), some (.int (zI (r + 1))), none] → W p l e R s m args below meth c H locs 0 0 Q (F0 m 72 ls [])) → W p l e R s m args below meth c H locs 0 0 Q (F0 m 72 ls []) := by
              intro r x H locs ls hr h hl kont
              refine z_iload F hl dX0_prefix_72 rfl ?_
              refine z_iload_n F hl dX0_prefix_74 rfl ?_
              refine z_icmp_ge F 140 dX0_prefix_75 (fun c75 => ?_) (fun c75 => ?_)
              · exact absurd c75 (by omega)
              · refine z_joinH h 103 (bz (decide ((0 < t ∧ 0 ≤ r) ∧ ld lb r.toNat (2 * k - 1) = true))) (fun J => ?_) (fun H locs h => ?_)
                · refine z_iload F hl dX0_prefix_78 rfl ?_
                  refine z_if_le F 102 dX0_prefix_80 (fun c80 => ?_) (fun c80 => ?_)
                  · refine z_iconst F dX0_prefix_102 ?_
                    exact J _ _ _ (bz_df (by omega)) h
                  · refine z_iload F hl dX0_prefix_83 rfl ?_
                    refine z_if_lt F 102 dX0_prefix_85 (fun c85 => ?_) (fun c85 => ?_)
                    · refine z_iconst F dX0_prefix_102 ?_
                      exact J _ _ _ (bz_df (by omega)) h
                    · refine z_aload_n F hl dX0_prefix_88 rfl ?_
                      refine z_iload F hl dX0_prefix_89 rfl ?_
                      refine z_iload_n F hl dX0_prefix_91 rfl ?_
                      refine rX0_leads F h hl r.toNat (2 * k - 1) dX0_prefix_92 (fun H locs h => ?_)
                      refine z_if_eq F 102 dX0_prefix_95 (fun c95 => ?_) (fun c95 => ?_) (bz_in _)
                      · have c95 := bz_e0 c95
                        refine z_iconst F dX0_prefix_102 ?_
                        exact J _ _ _ (bz_df (by rw [c95]; intro q; exact absurd q.2 (by decide))) h
                      · have c95 := bz_n0 c95
                        refine z_iconst F dX0_prefix_98 ?_
                        refine z_goto F 103 dX0_prefix_99 ?_
                        exact J _ _ _ (bz_dt ⟨by omega, c95⟩) h
                · refine z_istore F hl dX0_prefix_103 (fun ls hl => ?_)
                  refine z_iload F hl dX0_prefix_105 rfl ?_
                  refine z_join 131 (cmt up' lb t (2 * k - 1) r) (fun J => ?_) ?_
                  · refine z_iload F hl dX0_prefix_107 rfl ?_
                    refine z_if_eq F 130 dX0_prefix_109 (fun c109 => ?_) (fun c109 => ?_) (bz_in _)
                    · have c109 := bz_d0 c109
                      refine z_iconst F dX0_prefix_130 ?_
                      refine J _ ?_
                      rw [cmt, if_neg c109]
                    · have c109 := bz_d1 c109
                      refine z_aload_n F hl dX0_prefix_112 rfl ?_
                      refine dk_g5 F h dX0_prefix_113 ?_
                      refine z_iload F hl dX0_prefix_116 rfl ?_
                      refine z_iconst F dX0_prefix_118 ?_
                      refine z_isub F dX0_prefix_119 ?_
                      refine z_bipush F dX0_prefix_120 ?_
                      refine z_imul F dX0_prefix_122 ?_
                      refine z_iload F hl dX0_prefix_123 rfl ?_
                      refine z_iadd F dX0_prefix_125 ?_
                      refine dk_l3 F h (9 * (t - 1) + r.toNat) dX0_prefix_126 ?_
                      refine z_goto F 131 dX0_prefix_127 ?_
                      refine J _ ?_
                      rw [cmt, if_pos c109]
                  · refine z_iadd F dX0_prefix_131 ?_
                    refine z_istore F hl dX0_prefix_132 (fun ls hl => ?_)
                    refine z_iinc F hl (r + 1) dX0_prefix_134 rfl (fun ls hl => ?_)
                    refine z_goto F 72 dX0_prefix_137 ?_
                    exact kont H locs ls h (hl.keep [true, true, true, true, true, true, true, false])
            refine st ((2 * (k : Int) - 1) - 2) _ H locs ls (by omega) h (hl.keep [true, true, true, true, true, true, true, false]) (fun H locs ls h hl => ?_)
            refine st ((2 * (k : Int) - 1) - 2 + 1) _ H locs ls (by omega) h hl (fun H locs ls h hl => ?_)
            rw [pf_sum wt up' lb k t (by omega) (fun s' h1 h2 => by
              have := hU (t - 1) s' (by omega) (by omega)
              rw [show t - 1 + 1 = t by omega] at this
              exact this)] at hl
            refine z_iload F hl dX0_prefix_72 rfl ?_
            refine z_iload_n F hl dX0_prefix_74 rfl ?_
            refine z_icmp_ge F 140 dX0_prefix_75 (fun c75 => ?_) (fun c75 => ?_)
            · refine z_iload F hl dX0_prefix_140 rfl ?_
              refine z_aload_n F hl dX0_prefix_142 rfl ?_
              refine z_iload F hl dX0_prefix_143 rfl ?_
              refine z_iload_n F hl dX0_prefix_145 rfl ?_
              refine rX0_weightOf F h hl t (mk lb (2 * k - 1)) dX0_prefix_146 (fun H locs h => ?_)
              rw [ew_0]
              refine z_imul F dX0_prefix_149 ?_
              refine z_istore F hl dX0_prefix_150 (fun ls hl => ?_)
              refine z_iload F hl dX0_prefix_152 rfl ?_
              refine z_iconst F dX0_prefix_154 ?_
              refine z_iadd F dX0_prefix_155 ?_
              refine z_istore F hl dX0_prefix_156 (fun ls hl => ?_)
              have prod : ∀ (d2 i : Nat) (x : Int) (H : Heap) (locs : List Loc) (ls : Array Slot), t + 1 + i + d2 = n → x = pfA wt lb k t * wt (4 * t + mk lb (2 * k - 1)) * pdr (fsm wt) (t + 1) i → wh D (dw ad ca n wt k lb 0 up' on bo) (dt ca) A s H locs → lz ls 8 [some (.ref (ad 0)), some (.int (zI (2 * (k : Int) - 1))), some (.int (zI ((mk lb (2 * k - 1) : Nat) : Int))), some (.int (zI z)), some (.int (zI t)), none, some (.int (zI x)), some (.int (zI ((t + 1 + i : Nat) : Int)))] → W p l e R s m args below meth c H locs 0 0 Q (F0 m 158 ls []) := by
                intro d2
                induction d2 with
                | zero =>
                  intro i x H locs ls hi hx h hl
                  refine z_iload F hl dX0_prefix_158 rfl ?_
                  refine z_aload_n F hl dX0_prefix_160 rfl ?_
                  refine dk_g0 F h dX0_prefix_161 ?_
                  refine z_icmp_ge F 184 dX0_prefix_164 (fun c164 => ?_) (fun c164 => ?_)
                  · refine z_iload_n F hl dX0_prefix_184 rfl ?_
                    refine z_iload F hl dX0_prefix_185 rfl ?_
                    refine z_iadd F dX0_prefix_187 ?_
                    refine z_istore_n F hl dX0_prefix_188 (fun ls hl => ?_)
                    refine z_iinc F hl ((t + 1 : Nat) : Int) dX0_prefix_189 rfl (fun ls hl => ?_)
                    refine z_goto F 41 dX0_prefix_192 ?_
                    refine ih (t + 1) _ H locs ls (by omega) ?_ h (hl.keep [true, true, true, true, true, false, false, false])
                    rw [hz, hx, show i = n - 1 - t by omega]; rfl
                  · exact absurd c164 (by omega)
                | succ d2 ih2 =>
                  intro i x H locs ls hi hx h hl
                  refine z_iload F hl dX0_prefix_158 rfl ?_
                  refine z_aload_n F hl dX0_prefix_160 rfl ?_
                  refine dk_g0 F h dX0_prefix_161 ?_
                  refine z_icmp_ge F 184 dX0_prefix_164 (fun c164 => ?_) (fun c164 => ?_)
                  · exact absurd c164 (by omega)
                  · refine z_iload F hl dX0_prefix_167 rfl ?_
                    refine z_aload_n F hl dX0_prefix_169 rfl ?_
                    refine z_iload F hl dX0_prefix_170 rfl ?_
                    refine rX0_frameSum F h hl (t + 1 + i) dX0_prefix_172 (fun H locs h => ?_)
                    refine z_imul F dX0_prefix_175 ?_
                    refine z_istore F hl dX0_prefix_176 (fun ls hl => ?_)
                    refine z_iinc F hl ((t + 1 + (i + 1) : Nat) : Int) dX0_prefix_178 rfl (fun ls hl => ?_)
                    refine z_goto F 158 dX0_prefix_181 ?_
                    refine ih2 (i + 1) _ H locs ls (by omega) ?_ h hl
                    rw [hx, pdr, Int.mul_assoc]
              refine prod (n - 1 - t) 0 _ H locs ls (by omega) ?_ h (hl.keep [true, true, true, true, true, false, true, true])
              rw [pdr, Int.mul_one]
            · exact absurd c75 (by omega)
    exact outer n 0 0 H locs ls (by omega) rfl h (hl.keep [true, true, true, true, true, false, false, false])
  · refine z_aload_n F hl dX0_prefix_7 rfl ?_
    refine rX0_everything F h hl dX0_prefix_8 (fun H locs h => ?_)
    refine ret _ _ _ _ _ _ dX0_prefix_11 h ⟨pl, up, ?_, rfl, hp⟩
    rw [pfR, if_pos (by omega)]
theorem wr_1 {k i : Nat} (hk : k < 4) (hi : 1 ≤ i ∧ i ≤ 3) : wrK k (i : Int) = k + 1 := by rw [wrK, if_pos (by omega)]
theorem wr_2 {k i : Nat} (lb : Nat → Nat) (hk : k < 4) (hi : 1 ≤ i ∧ i ≤ 3) : wrL k lb (i : Int) = up1 lb k i := by rw [wrL, if_pos (by omega), Int.toNat_natCast]
theorem up1_le {lb : Nat → Nat} {k x : Nat} (hb : ∀ j, lb j ≤ 3) (hx : x ≤ 3) : ∀ j, up1 lb k x j ≤ 3 := by
  intro j; unfold up1; split
  · exact hx
  · exact hb j
theorem i32_nle {x y : Int32} (h : ¬ x ≤ y) : y < x := by
  rw [Int32.le_iff_toInt_le] at h; rw [Int32.lt_iff_toInt_lt]; omega
theorem i32_le {x y : Int32} (h : x ≤ y) : ¬ y < x := by
  rw [Int32.le_iff_toInt_le] at h; rw [Int32.lt_iff_toInt_lt]; omega
set_option maxHeartbeats 4000000 in
set_option maxRecDepth 100000 in
theorem mX0_bestNext (l : Launch) (D : va_G) (ad : Nat → Nat) (ca : Nat → ClassId) (n : Nat) (wt : Nat → Int) (k : Nat) (lb : Nat → Nat) (pl : Int) (up : Nat → Int) (on : Nat → Int) (bo : Nat → Int)  (hn : n ≤ 6) (hk : k ≤ 4) (hb : ∀ j, lb j ≤ 3) (hp : pl = 0 ∨ pl = 1) : Ci l D (dt ca) yX0_bestNext cX0_bestNext 5 (some .int) 5 110 [.ref (ad 0)] (dw ad ca n wt k lb pl up on bo) (fun r w => ∃ (pl' : Int), ∃ (up' : Nat → Int), r = zI (bnR wt lb k n) ∧ w = dw ad ca n wt k (bnL k lb) pl' up' on bo ∧ (pl' = 0 ∨ pl' = 1)) := by
  refine Ci.of (by decide) (Nat.le_of_ble_eq_true rfl) (by simp [Value.category]) ?_
  intro p e R s m args below meth c A Q ls hRf hRl F h hl ret
  have F : fx p m meth c s args cX0_bestNext 5 RX0 A := F
  refine z_iconst F dX0_bestNext_0 ?_
  refine z_istore_n F hl dX0_bestNext_1 (fun ls hl => ?_)
  refine z_iconst F dX0_bestNext_2 ?_
  refine z_istore_n F hl dX0_bestNext_3 (fun ls hl => ?_)
  refine z_iconst F dX0_bestNext_4 ?_
  refine z_istore_n F hl dX0_bestNext_5 (fun ls hl => ?_)
  by_cases hk4 : k < 4
  · have L : ∀ (d i : Nat) (lb1 : Nat → Nat) (pl : Int) (up : Nat → Int) (b y : Int) (H : Heap) (locs : List Loc) (ls : Array Slot), i + d = 4 → 1 ≤ i → (pl = 0 ∨ pl = 1) → (∀ j, lb1 j ≤ 3) → (∀ z, up1 lb1 k z = up1 lb k z) → (i = 4 → lb1 = up1 lb k 3) → (b, y) = bnS (fun q => tot wt (up1 lb k q) (k + 1) n) (i - 1) → wh D (dw ad ca n wt k lb1 pl up on bo) (dt ca) A s H locs → lz ls 5 [some (.ref (ad 0)), some (.int (zI b)), some (.int (zI y)), some (.int (zI i)), none] → W p l e R s m args below meth c H locs 0 0 Q (F0 m 6 ls []) := by
      intro d
      induction d with
      | zero =>
        intro i lb1 pl up b y H locs ls hi h1 hp hb1 hu h4 hS h hl
        refine z_iload_n F hl dX0_bestNext_6 rfl ?_
        refine z_iconst F dX0_bestNext_7 ?_
        refine z_icmp_ge F 53 dX0_bestNext_8 (fun c8 => ?_) (fun c8 => ?_)
        · refine z_iload_n F hl dX0_bestNext_53 rfl ?_
          refine ret _ _ _ _ _ _ dX0_bestNext_54 h ⟨pl, up, ?_, ?_, hp⟩
          · rw [bnR, if_pos hk4, show 3 = i - 1 by omega, ← hS]
          · rw [bnL, if_pos hk4, h4 (by omega)]
        · exact absurd c8 (by omega)
      | succ d ih =>
        intro i lb1 pl up b y H locs ls hi h1 hp hb1 hu h4 hS h hl
        refine z_iload_n F hl dX0_bestNext_6 rfl ?_
        refine z_iconst F dX0_bestNext_7 ?_
        refine z_icmp_ge F 53 dX0_bestNext_8 (fun c8 => ?_) (fun c8 => ?_)
        · exact absurd c8 (by omega)
        · refine z_aload_n F hl dX0_bestNext_11 rfl ?_
          refine dk_g2 F h dX0_bestNext_12 ?_
          refine z_iconst F dX0_bestNext_15 ?_
          refine z_icmp_ge F 53 dX0_bestNext_16 (fun c16 => ?_) (fun c16 => ?_)
          · exact absurd c16 (by omega)
          · refine z_aload_n F hl dX0_bestNext_19 rfl ?_
            refine z_iload_n F hl dX0_bestNext_20 rfl ?_
            refine rX0_write F h hl (i : Int) dX0_bestNext_21 (fun H locs h => ?_)
            rw [wr_1 hk4 (by omega), wr_2 lb1 hk4 (by omega), hu] at h
            refine z_pop F dX0_bestNext_24 ?_
            refine z_aload_n F hl dX0_bestNext_25 rfl ?_
            have hb2 := up1_le (k := k) (x := i) hb (by omega)
            refine rX0_total F h hl dX0_bestNext_26 (fun up' H locs h => ?_)
            refine z_istore F hl dX0_bestNext_29 (fun ls hl => ?_)
            refine z_aload_n F hl dX0_bestNext_31 rfl ?_
            refine rX0_rub F h hl dX0_bestNext_32 (fun H locs h => ?_)
            rw [show k + 1 - 1 = k by omega] at h
            refine z_pop F dX0_bestNext_35 ?_
            refine z_iload F hl dX0_bestNext_36 rfl ?_
            refine z_iload_n F hl dX0_bestNext_38 rfl ?_
            have hS2 : bnS (fun q => tot wt (up1 lb k q) (k + 1) n) (i + 1 - 1) = if zI y < zI (tot wt (up1 lb k i) (k + 1) n) then ((i : Int), tot wt (up1 lb k i) (k + 1) n) else (b, y) := by
              obtain ⟨i', rfl⟩ : ∃ i', i = i' + 1 := ⟨i - 1, by omega⟩
              rw [show i' + 1 - 1 = i' by omega] at hS
              rw [show i' + 1 + 1 - 1 = i' + 1 by omega, bnS, ← hS]
            have hu2 : ∀ z, up1 (up1 lb k i) k z = up1 lb k z := fun z => up1_up1 lb k i z
            refine lv_icmp_le (tgt := 47) F.1 F.2.1 dX0_bestNext_39 (by decide) (fun c39 => ?_) (fun c39 => ?_)
            · refine z_iinc F hl ((i + 1 : Nat) : Int) dX0_bestNext_47 rfl (fun ls hl => ?_)
              refine z_goto F 6 dX0_bestNext_50 ?_
              refine ih (i + 1) (up1 lb k i) 0 up' b y H locs ls (by omega) (by omega) (Or.inl rfl) hb2 hu2 (fun q => by rw [show i = 3 by omega]) ?_ h (hl.keep [true, true, true, true, false])
              rw [hS2, if_neg (i32_le c39)]
            · refine z_iload F hl dX0_bestNext_42 rfl ?_
              refine z_istore_n F hl dX0_bestNext_44 (fun ls hl => ?_)
              refine z_iload_n F hl dX0_bestNext_45 rfl ?_
              refine z_istore_n F hl dX0_bestNext_46 (fun ls hl => ?_)
              refine z_iinc F hl ((i + 1 : Nat) : Int) dX0_bestNext_47 rfl (fun ls hl => ?_)
              refine z_goto F 6 dX0_bestNext_50 ?_
              refine ih (i + 1) (up1 lb k i) 0 up' (i : Int) (tot wt (up1 lb k i) (k + 1) n) H locs ls (by omega) (by omega) (Or.inl rfl) hb2 hu2 (fun q => by rw [show i = 3 by omega]) ?_ h (hl.keep [true, true, true, true, false])
              rw [hS2, if_pos (i32_nle c39)]
    exact L 3 1 lb pl up 0 0 _ _ ls (by omega) (by omega) hp hb (fun z => rfl) (fun q => absurd q (by omega)) rfl h (hl.keep [true, true, true, true, false])
  · refine z_iload_n F hl dX0_bestNext_6 rfl ?_
    refine z_iconst F dX0_bestNext_7 ?_
    refine z_icmp_ge F 53 dX0_bestNext_8 (fun c8 => ?_) (fun c8 => ?_)
    · exact absurd c8 (by omega)
    · refine z_aload_n F hl dX0_bestNext_11 rfl ?_
      refine dk_g2 F h dX0_bestNext_12 ?_
      refine z_iconst F dX0_bestNext_15 ?_
      refine z_icmp_ge F 53 dX0_bestNext_16 (fun c16 => ?_) (fun c16 => ?_)
      · refine z_iload_n F hl dX0_bestNext_53 rfl ?_
        refine ret _ _ _ _ _ _ dX0_bestNext_54 h ⟨pl, up, ?_, ?_, hp⟩
        · rw [bnR, if_neg hk4]
        · rw [bnL, if_neg hk4]
      · exact absurd c16 (by omega)
end
section
/-! THE DESK: bestAt -/
def oz : Option Nat → Int
  | none => -1
  | some b => (b : Int)
def opn (lb : Nat → Nat) (a : Option Nat) (s : Nat) : Bool := match a with | none => decide (s ≤ 1) | some b => ld lb b s
theorem kp_eq (wt : Nat → Int) (lb : Nat → Nat) (k n u : Nat) (a : Option Nat) (so : Int) (s : Nat) : kp wt lb k n u a so s = (opn lb a s && decide (0 ≤ Mx wt lb k n (n - 1 - u) s ∧ so * wt (4 * u + mk lb s) * Mx wt lb k n (n - 1 - u) s = Mx wt lb k n n 0)) := rfl
theorem pck_lt {K : Nat → Bool} {f : Nat → Nat} : ∀ {i b : Nat}, pck K f i = some b → b < i
  | 0, b, h => by simp [pck] at h
  | i + 1, b, h => by
    unfold pck at h
    split at h
    · obtain rfl : i = b := by simpa using h
      omega
    · have := pck_lt h
      omega
theorem p3_bd {so w x : Int} {u d : Nat} (h1 : 0 ≤ so ∧ so ≤ ((8 ^ u : Nat) : Int)) (hw : 0 ≤ w ∧ w ≤ 8) (hx : 0 ≤ x ∧ x ≤ ((8 ^ d : Nat) : Int)) (hud : u + d ≤ 5) : 0 ≤ so * w * x ∧ so * w * x ≤ 262144 := by
  have a1 : 0 ≤ so * w := Int.mul_nonneg h1.1 hw.1
  have a2 : so * w ≤ ((8 ^ u : Nat) : Int) * 8 := Int.mul_le_mul h1.2 hw.2 hw.1 (Int.natCast_nonneg _)
  have a3 : so * w * x ≤ ((8 ^ u : Nat) : Int) * 8 * ((8 ^ d : Nat) : Int) := Int.mul_le_mul a2 hx.2 hx.1 (by have := Int.natCast_nonneg (8 ^ u); omega)
  have a4 : ((8 ^ u : Nat) : Int) * 8 * ((8 ^ d : Nat) : Int) = ((8 ^ (u + 1 + d) : Nat) : Int) := by
    rw [Nat.pow_add, Nat.pow_succ]; rfl
  have a5 : 8 ^ (u + 1 + d) ≤ 8 ^ 6 := Nat.pow_le_pow_right (by decide) (by omega)
  refine ⟨Int.mul_nonneg a1 hx.1, ?_⟩
  rw [a4] at a3
  omega
theorem p2_bd {so w : Int} {u : Nat} (h1 : 0 ≤ so ∧ so ≤ ((8 ^ u : Nat) : Int)) (hw : 0 ≤ w ∧ w ≤ 8) : 0 ≤ so * w ∧ so * w ≤ ((8 ^ (u + 1) : Nat) : Int) := by
  refine ⟨Int.mul_nonneg h1.1 hw.1, ?_⟩
  have a2 : so * w ≤ ((8 ^ u : Nat) : Int) * 8 := Int.mul_le_mul h1.2 hw.2 hw.1 (Int.natCast_nonneg _)
  rw [Nat.pow_succ]
  exact a2
set_option maxHeartbeats 4000000 in
set_option maxRecDepth 100000 in
theorem mX0_bestAt (l : Launch) (D : va_G) (ad : Nat → Nat) (ca : Nat → ClassId) (n : Nat) (wt : Nat → Int) (k : Nat) (lb : Nat → Nat) (pl : Int) (up : Nat → Int) (on : Nat → Int) (bo : Nat → Int) (x : Int) (hx : -2147483648 ≤ x ∧ x < 2147483648) (hn : n ≤ 6) (hk : k ≤ 4) (hb : ∀ j, lb j ≤ 3) (hp : pl = 0 ∨ pl = 1) (hw : ∀ j, 0 ≤ wt j ∧ wt j ≤ 8) (hg : 0 ≤ Mx wt lb k n n 0 → ∀ u, u < n → (gpl wt lb k n (u + 1)).isSome = true) : Ci l D (dt ca) yX0_bestAt cX0_bestAt 12 (some .int) 4 93 [.ref (ad 0), .int (zI x)] (dw ad ca n wt k lb pl up on bo) (fun r w => ∃ (pl' : Int), ∃ (on' : Nat → Int), ∃ (bo' : Nat → Int), r = zI (baR wt lb k n x) ∧ w = dw ad ca n wt k lb pl' up on' bo' ∧ (pl' = 0 ∨ pl' = 1)) := by
  refine Ci.of (by decide) (Nat.le_of_ble_eq_true rfl) (by simp [Value.category]) ?_
  intro p e R s m args below meth c A Q ls hRf hRl F h hl ret
  have F : fx p m meth c s args cX0_bestAt 12 RX0 A := F
  refine z_aload_n F hl dX0_bestAt_0 rfl ?_
  refine z_iload_n F hl dX0_bestAt_1 rfl ?_
  refine rX0_isFrame F h hl x dX0_bestAt_2 (fun H locs h => ?_)
  refine z_if_ne F 10 dX0_bestAt_5 (fun c5 => ?_) (fun c5 => ?_) (bz_in _)
  · have c5 := bz_d1 c5
    refine z_aload_n F hl dX0_bestAt_10 rfl ?_
    refine rX0_greatest F h hl dX0_bestAt_11 (fun on' bo' H locs hU h => ?_)
    have hM := mx_bd hw lb k n n 0
    have h8 : 8 ^ n ≤ 8 ^ 6 := Nat.pow_le_pow_right (by decide) hn
    refine z_istore_n F hl dX0_bestAt_14 (fun ls hl => ?_)
    refine z_iload_n F hl dX0_bestAt_15 rfl ?_
    refine z_if_ge F 21 dX0_bestAt_16 (fun c16 => ?_) (fun c16 => ?_)
    · have hg := hg c16
      refine z_iconst F dX0_bestAt_21 ?_
      refine z_istore_n F hl dX0_bestAt_22 (fun ls hl => ?_)
      refine z_iconst F dX0_bestAt_23 ?_
      refine z_istore F hl dX0_bestAt_24 (fun ls hl => ?_)
      refine z_iconst F dX0_bestAt_26 ?_
      refine z_istore F hl dX0_bestAt_27 (fun ls hl => ?_)
      obtain ⟨v, rfl⟩ : ∃ v : Nat, x = (v : Int) := ⟨x.toNat, by omega⟩
      have outer : ∀ (d u : Nat) (a : Option Nat) (so : Int) (H : Heap) (locs : List Loc) (ls : Array Slot), u + d = v + 1 → (a, so) = gst wt lb k n u → (0 ≤ so ∧ so ≤ ((8 ^ u : Nat) : Int)) → (∀ b, a = some b → b < 9) → wh D (dw ad ca n wt k lb 0 up on' bo') (dt ca) A s H locs → lz ls 12 [some (.ref (ad 0)), some (.int (zI v)), some (.int (zI (Mx wt lb k n n 0))), some (.int (zI so)), some (.int (zI (oz a))), some (.int (zI u)), none, none, none, none, none, none] → W p l e R s m args below meth c H locs 0 0 Q (F0 m 29 ls []) := by
        intro d
        induction d with
        | zero =>
          intro u a so H locs ls hu hgs hso ha h hl
          have hsome := hg v (by omega)
          rw [show v + 1 = u by omega, gpl, ← hgs] at hsome
          obtain ⟨b, rfl⟩ := Option.isSome_iff_exists.mp hsome
          have hb9 := ha b rfl
          refine z_iload F hl dX0_bestAt_29 rfl ?_
          refine z_iload_n F hl dX0_bestAt_31 rfl ?_
          refine z_icmp_gt F 203 dX0_bestAt_32 (fun c32 => ?_) (fun c32 => ?_)
          · refine z_aload_n F hl dX0_bestAt_203 rfl ?_
            refine z_iload F hl dX0_bestAt_204 rfl ?_
            refine rX0_markAt F h hl b dX0_bestAt_206 (fun H locs h => ?_)
            refine ret _ _ _ _ _ _ dX0_bestAt_209 h ⟨0, on', bo', ?_, rfl, Or.inl rfl⟩
            rw [baR, if_pos c5, if_neg (by omega), Int.toNat_natCast, show v + 1 = u by omega, gpl, ← hgs]
            rfl
          · exact absurd c32 (by omega)
        | succ d ih =>
          intro u a so H locs ls hu hgs hso ha h hl
          refine z_iload F hl dX0_bestAt_29 rfl ?_
          refine z_iload_n F hl dX0_bestAt_31 rfl ?_
          refine z_icmp_gt F 203 dX0_bestAt_32 (fun c32 => ?_) (fun c32 => ?_)
          · exact absurd c32 (by omega)
          · refine z_iconst F dX0_bestAt_35 ?_
            refine z_istore F hl dX0_bestAt_36 (fun ls hl => ?_)
            refine z_iconst F dX0_bestAt_38 ?_
            refine z_istore F hl dX0_bestAt_39 (fun ls hl => ?_)
            have inner : ∀ (d2 j : Nat) (nx : Option Nat) (H : Heap) (locs : List Loc) (ls : Array Slot), j + d2 = 2 * k + 1 → nx = pck (kp wt lb k n u a so) (mk lb) j → wh D (dw ad ca n wt k lb 0 up on' bo') (dt ca) A s H locs → lz ls 12 [some (.ref (ad 0)), some (.int (zI v)), some (.int (zI (Mx wt lb k n n 0))), some (.int (zI so)), some (.int (zI (oz a))), some (.int (zI u)), some (.int (zI (oz nx))), some (.int (zI j)), none, none, none, none] → W p l e R s m args below meth c H locs 0 0 Q (F0 m 41 ls []) := by
              intro d2
              induction d2 with
              | zero =>
                intro j nx H locs ls hj hnx h hl
                obtain rfl : j = 2 * k + 1 := by omega
                have hsome := hg u (by omega)
                rw [gpl, gst, ← hgs, ← hnx] at hsome
                obtain ⟨b, rfl⟩ := Option.isSome_iff_exists.mp hsome
                have hb9 := pck_lt hnx.symm
                have hmk := mk_le hb b
                refine z_iload F hl dX0_bestAt_41 rfl ?_
                refine z_iconst F dX0_bestAt_43 ?_
                refine z_aload_n F hl dX0_bestAt_44 rfl ?_
                refine dk_g2 F h dX0_bestAt_45 ?_
                refine z_imul F dX0_bestAt_48 ?_
                refine z_icmp_gt F 174 dX0_bestAt_49 (fun c49 => ?_) (fun c49 => ?_)
                · refine z_iload F hl dX0_bestAt_174 rfl ?_
                  refine z_istore F hl dX0_bestAt_176 (fun ls hl => ?_)
                  refine z_aload_n F hl dX0_bestAt_178 rfl ?_
                  refine z_iload F hl dX0_bestAt_179 rfl ?_
                  refine rX0_markAt F h hl b dX0_bestAt_181 (fun H locs h => ?_)
                  refine z_istore F hl dX0_bestAt_184 (fun ls hl => ?_)
                  refine z_iload_n F hl dX0_bestAt_186 rfl ?_
                  refine z_aload_n F hl dX0_bestAt_187 rfl ?_
                  refine z_iload F hl dX0_bestAt_188 rfl ?_
                  refine z_iload F hl dX0_bestAt_190 rfl ?_
                  refine rX0_weightOf F h hl u (mk lb b) dX0_bestAt_192 (fun H locs h => ?_)
                  rw [ew_0]
                  refine z_imul F dX0_bestAt_195 ?_
                  refine z_istore_n F hl dX0_bestAt_196 (fun ls hl => ?_)
                  refine z_iinc F hl ((u + 1 : Nat) : Int) dX0_bestAt_197 rfl (fun ls hl => ?_)
                  refine z_goto F 29 dX0_bestAt_200 ?_
                  refine ih (u + 1) (some b) (so * wt (4 * u + mk lb b)) H locs ls (by omega) ?_ (p2_bd hso (hw _)) (fun z hz => by
                    obtain rfl : b = z := by simpa using hz
                    omega) h (hl.keep [true, true, true, true, true, true, false, false, false, false, false, false])
                  rw [gst, ← hgs, ← hnx]; rfl
                · exact absurd c49 (by omega)
              | succ d2 ih2 =>
                intro j nx H locs ls hj hnx h hl
                have hmk := mk_le hb j
                have hbo : bo' (9 * u + j) = Mx wt lb k n (n - 1 - u) j := hU u j (by omega) (by omega)
                have hMx := mx_bd hw lb k n (n - 1 - u) j
                have hM5 := mx_32768 hw lb k n (d := n - 1 - u) (by omega) j
                have hnx9 : ∀ b, nx = some b → b < 9 := fun b hb => by
                  have := pck_lt (hnx ▸ hb : pck (kp wt lb k n u a so) (mk lb) j = some b)
                  omega
                refine z_iload F hl dX0_bestAt_41 rfl ?_
                refine z_iconst F dX0_bestAt_43 ?_
                refine z_aload_n F hl dX0_bestAt_44 rfl ?_
                refine dk_g2 F h dX0_bestAt_45 ?_
                refine z_imul F dX0_bestAt_48 ?_
                refine z_icmp_gt F 174 dX0_bestAt_49 (fun c49 => ?_) (fun c49 => ?_)
                · exact absurd c49 (by omega)
                · refine z_joinH h 79 (bz (opn lb a j)) (fun J => ?_) (fun H locs h => ?_)
                  · cases a with
                    | none =>
                      refine z_iload F hl (a := -1) dX0_bestAt_52 rfl ?_
                      refine z_if_ge F 71 dX0_bestAt_54 (fun c54 => ?_) (fun c54 => ?_)
                      · exact absurd c54 (by omega)
                      · refine z_iload F hl dX0_bestAt_57 rfl ?_
                        refine z_iconst F dX0_bestAt_59 ?_
                        refine z_icmp_gt F 67 dX0_bestAt_60 (fun c60 => ?_) (fun c60 => ?_)
                        · refine z_iconst F dX0_bestAt_67 ?_
                          refine z_goto F 79 dX0_bestAt_68 ?_
                          exact J _ _ _ (bz_df (by omega)) h
                        · refine z_iconst F dX0_bestAt_63 ?_
                          refine z_goto F 79 dX0_bestAt_64 ?_
                          exact J _ _ _ (bz_dt (by omega)) h
                    | some b =>
                      have hb9 := ha b rfl
                      refine z_iload F hl (a := (b : Int)) dX0_bestAt_52 rfl ?_
                      refine z_if_ge F 71 dX0_bestAt_54 (fun c54 => ?_) (fun c54 => ?_)
                      · refine z_aload_n F hl dX0_bestAt_71 rfl ?_
                        refine z_iload F hl (a := (b : Int)) dX0_bestAt_72 rfl ?_
                        refine z_iload F hl dX0_bestAt_74 rfl ?_
                        refine rX0_leads F h hl b j dX0_bestAt_76 (fun H locs h => ?_)
                        exact J _ _ _ rfl h
                      · exact absurd c54 (by omega)
                  · refine z_istore F hl dX0_bestAt_79 (fun ls hl => ?_)
                    refine z_aload_n F hl dX0_bestAt_81 rfl ?_
                    refine z_iload F hl dX0_bestAt_82 rfl ?_
                    refine rX0_markAt F h hl j dX0_bestAt_84 (fun H locs h => ?_)
                    refine z_istore F hl dX0_bestAt_87 (fun ls hl => ?_)
                    refine z_aload_n F hl dX0_bestAt_89 rfl ?_
                    refine dk_g7 F h dX0_bestAt_90 ?_
                    refine z_iload F hl dX0_bestAt_93 rfl ?_
                    refine z_bipush F dX0_bestAt_95 ?_
                    refine z_imul F dX0_bestAt_97 ?_
                    refine z_iload F hl dX0_bestAt_98 rfl ?_
                    refine z_iadd F dX0_bestAt_100 ?_
                    refine dk_l5 F h (9 * u + j) dX0_bestAt_101 ?_
                    rw [hbo]
                    refine z_istore F hl dX0_bestAt_102 (fun ls hl => ?_)
                    refine z_joinH h 136 (bz (kp wt lb k n u a so j)) (fun J => ?_) (fun H locs h => ?_)
                    · refine z_iload F hl dX0_bestAt_104 rfl ?_
                      refine z_if_eq F 135 dX0_bestAt_106 (fun c106 => ?_) (fun c106 => ?_) (bz_in _)
                      · have c106 := bz_e0 c106
                        refine z_iconst F dX0_bestAt_135 ?_
                        refine J _ _ _ (bz_f ?_) h
                        rw [kp_eq, c106, Bool.false_and]
                      · have c106 := bz_n0 c106
                        refine z_iload F hl dX0_bestAt_109 rfl ?_
                        refine z_if_lt F 135 dX0_bestAt_111 (fun c111 => ?_) (fun c111 => ?_)
                        · refine z_iconst F dX0_bestAt_135 ?_
                          refine J _ _ _ (bz_f ?_) h
                          rw [kp_eq, c106, Bool.true_and, decide_eq_false (by omega)]
                        · refine z_iload_n F hl dX0_bestAt_114 rfl ?_
                          refine z_aload_n F hl dX0_bestAt_115 rfl ?_
                          refine z_iload F hl dX0_bestAt_116 rfl ?_
                          refine z_iload F hl dX0_bestAt_118 rfl ?_
                          refine rX0_weightOf F h hl u (mk lb j) dX0_bestAt_120 (fun H locs h => ?_)
                          rw [ew_0]
                          have hp3 := p3_bd hso (hw (4 * u + mk lb j)) ⟨by omega, hMx.2⟩ (by omega)
                          refine z_imul F dX0_bestAt_123 ?_
                          refine z_iload F hl dX0_bestAt_124 rfl ?_
                          refine z_imul F dX0_bestAt_126 ?_
                          refine z_iload_n F hl dX0_bestAt_127 rfl ?_
                          refine z_icmp_ne F 135 dX0_bestAt_128 (fun c128 => ?_) (fun c128 => ?_)
                          · refine z_iconst F dX0_bestAt_135 ?_
                            refine J _ _ _ (bz_f ?_) h
                            rw [kp_eq, c106, Bool.true_and, decide_eq_false (fun q => c128 q.2)]
                          · refine z_iconst F dX0_bestAt_131 ?_
                            refine z_goto F 136 dX0_bestAt_132 ?_
                            refine J _ _ _ (bz_t ?_) h
                            rw [kp_eq, c106, Bool.true_and, decide_eq_true ⟨by omega, c128⟩]
                    · refine z_istore F hl dX0_bestAt_136 (fun ls hl => ?_)
                      refine z_joinH h 166 (oz (pck (kp wt lb k n u a so) (mk lb) (j + 1))) (fun J => ?_) (fun H locs h => ?_)
                      · refine z_iload F hl dX0_bestAt_138 rfl ?_
                        refine z_if_eq F 164 dX0_bestAt_140 (fun c140 => ?_) (fun c140 => ?_) (bz_in _)
                        · have c140 := bz_e0 c140
                          refine z_iload F hl dX0_bestAt_164 rfl ?_
                          refine J _ _ _ ?_ h
                          rw [pck, if_neg (fun q => by rw [c140] at q; exact absurd q.1 (by decide)), ← hnx]
                        · have c140 := bz_n0 c140
                          cases nx with
                          | none =>
                            refine z_iload F hl (a := -1) dX0_bestAt_143 rfl ?_
                            refine z_if_lt F 159 dX0_bestAt_145 (fun c145 => ?_) (fun c145 => ?_)
                            · refine z_iload F hl dX0_bestAt_159 rfl ?_
                              refine z_goto F 166 dX0_bestAt_161 ?_
                              refine J _ _ _ ?_ h
                              rw [pck, if_pos ⟨c140, fun b hb => by rw [← hnx] at hb; exact absurd hb (by simp)⟩]
                              rfl
                            · exact absurd c145 (by omega)
                          | some b =>
                            have hb9 := hnx9 b rfl
                            have hmb := mk_le hb b
                            refine z_iload F hl (a := (b : Int)) dX0_bestAt_143 rfl ?_
                            refine z_if_lt F 159 dX0_bestAt_145 (fun c145 => ?_) (fun c145 => ?_)
                            · exact absurd c145 (by omega)
                            · refine z_iload F hl dX0_bestAt_148 rfl ?_
                              refine z_aload_n F hl dX0_bestAt_150 rfl ?_
                              refine z_iload F hl (a := (b : Int)) dX0_bestAt_151 rfl ?_
                              refine rX0_markAt F h hl b dX0_bestAt_153 (fun H locs h => ?_)
                              refine z_icmp_ge F 164 dX0_bestAt_156 (fun c156 => ?_) (fun c156 => ?_)
                              · refine z_iload F hl (a := (b : Int)) dX0_bestAt_164 rfl ?_
                                refine J _ _ _ ?_ h
                                rw [pck, if_neg (fun q => by have := q.2 b hnx.symm; omega), ← hnx]
                                rfl
                              · refine z_iload F hl dX0_bestAt_159 rfl ?_
                                refine z_goto F 166 dX0_bestAt_161 ?_
                                refine J _ _ _ ?_ h
                                rw [pck, if_pos ⟨c140, fun z hz => by rw [← hnx] at hz; obtain rfl : b = z := by simpa using hz
                                                                      omega⟩]
                                rfl
                      · refine z_istore F hl dX0_bestAt_166 (fun ls hl => ?_)
                        refine z_iinc F hl ((j + 1 : Nat) : Int) dX0_bestAt_168 rfl (fun ls hl => ?_)
                        refine z_goto F 41 dX0_bestAt_171 ?_
                        exact ih2 (j + 1) _ H locs ls (by omega) rfl h (hl.keep [true, true, true, true, true, true, true, true, false, false, false, false])
            exact inner (2 * k + 1) 0 none H locs ls (by omega) rfl h (hl.keep [true, true, true, true, true, true, true, true, false, false, false, false])
      exact outer (v + 1) 0 none 1 H locs ls (by omega) rfl ⟨by decide, by decide⟩ (fun b hb => by simp at hb) h (hl.keep [true, true, true, true, true, true, false, false, false, false, false, false])
    · refine z_iconst F dX0_bestAt_19 ?_
      refine ret _ _ _ _ _ _ dX0_bestAt_20 h ⟨0, on', bo', ?_, rfl, Or.inl rfl⟩
      rw [baR, if_pos c5, if_pos (by omega)]
  · have c5 := bz_d0 c5
    refine z_iconst F dX0_bestAt_8 ?_
    refine ret _ _ _ _ _ _ dX0_bestAt_9 h ⟨pl, on, bo, ?_, rfl, hp⟩
    rw [baR, if_neg c5]
end
section
/-! THE MODEL: leaves, spell, reads, fits -/
set_option maxHeartbeats 4000000 in
set_option maxRecDepth 100000 in
theorem mX1_mark (l : Launch) (D : va_G) (ad : Nat → Nat) (ca : Nat → ClassId) (n : Nat) (wt : Nat → Int) (k : Nat) (lb : Nat → Nat) (pa : Nat → Nat) (rd : Nat → Nat) (x : Int) (hx : -2147483648 ≤ x ∧ x < 2147483648) : Ci l D (mt ca) yX1_mark cX1_mark 2 (some .boolean) 0 0 [.ref (ad 0), .int (zI x)] (mw ad ca n wt k lb pa rd) (fun r w => r = zI (bz (decide (0 ≤ x ∧ x < 4))) ∧ w = mw ad ca n wt k lb pa rd) := by
  refine Cz.of (by decide) (Nat.le_of_ble_eq_true rfl) (by simp [Value.category]) ?_
  intro p e R s m args below meth c A Q ls hRf hRl F h hl ret
  have F : fx p m meth c s args cX1_mark 2 RX1 A := F
  refine z_join 14 (bz (decide (0 ≤ x ∧ x < 4))) (fun J => ?_) ?_
  · refine z_iload_n F hl dX1_mark_0 rfl ?_
    refine z_if_lt F 13 dX1_mark_1 (fun c1 => ?_) (fun c1 => ?_)
    · refine z_iconst F dX1_mark_13 ?_
      exact J _ (bz_df (by omega))
    · refine z_iload_n F hl dX1_mark_4 rfl ?_
      refine z_iconst F dX1_mark_5 ?_
      refine z_icmp_gt F 13 dX1_mark_6 (fun c6 => ?_) (fun c6 => ?_)
      · refine z_iconst F dX1_mark_13 ?_
        exact J _ (bz_df (by omega))
      · refine z_iconst F dX1_mark_9 ?_
        refine z_goto F 14 dX1_mark_10 ?_
        exact J _ (bz_dt (by omega))
  · exact ret _ _ _ _ _ _ dX1_mark_14 h (bz_01 _) ⟨rfl, rfl⟩
theorem rX1_mark {p : Program} {l : Launch} {e : Env} {R : Room} {s : State} {m : MethodId} {args : Array Value} {below : List Frame} {meth : Method} {c : Code} {H : Heap} {locs : List Loc} {Q : State → Prop} {cc : ByteArray} {pc : Nat} {ls : Array Slot} {rest : List Value} {nL : Nat} {A : Nat → Prop} {vs : List (Option Value)} {D : va_G} {ad : Nat → Nat} {ca : Nat → ClassId} {n : Nat} {wt : Nat → Int} {k : Nat} {lb : Nat → Nat} {pa : Nat → Nat} {rd : Nat → Nat} (F : fx p m meth c s args cc nL RX1 A) (h : wh D (mw ad ca n wt k lb pa rd) (mt ca) A s H locs) (hl : lz ls nL vs) (x : Int) {a0 : Int} (hdg : decode cc pc = .ok (.invokevirtual 30, 3)) (kk : ∀ (H1 : Heap) (locs1 : List Loc), wh D (mw ad ca n wt k lb pa rd) (mt ca) A s H1 locs1 → W p l e R s m args below meth c H1 locs1 0 0 Q (F0 m (pc + 3) ls (.int (zI (bz (decide (0 ≤ x ∧ x < 4)))) :: rest))) (hx : -2147483648 ≤ x ∧ x < 2147483648 := by first | assumption | omega) (e0 : a0 = x := by first | rfl | omega) (hR : 0 + 1 ≤ R.frames ∧ 8 + (2 + 11) + 0 ≤ R.locals := by omega) (hroom : (rest.map fun v => v.category).sum ≤ 8 := by exact Nat.le_of_ble_eq_true rfl) : W p l e R s m args below meth c H locs 0 0 Q (F0 m pc ls (.int (zI a0) :: .ref (ad 0) :: rest)) := by
  rw [e0]
  refine ci_call (ci := 1) (C := RX1) (T := TX1) (N := 6) (n := 1) F h (mX1_mark l D ad ca n wt k lb pa rd x hx) (lw_V q208 q210 qs12 q20 q211) (by decide +kernel) rfl rfl rfl hR ⟨Nat.zero_le _, Nat.zero_le _⟩ hl rfl hroom hdg (fun r w1 H1 locs1 hp hw => ?_)
  obtain ⟨rfl, rfl⟩ := hp
  exact kk H1 locs1 hw
set_option maxHeartbeats 4000000 in
set_option maxRecDepth 100000 in
theorem mX1_is (l : Launch) (D : va_G) (ad : Nat → Nat) (ca : Nat → ClassId) (n : Nat) (wt : Nat → Int) (k : Nat) (lb : Nat → Nat) (pa : Nat → Nat) (rd : Nat → Nat) (x : Int) (hx : -2147483648 ≤ x ∧ x < 2147483648) (hn : n ≤ 6) : Ci l D (mt ca) yX1_is cX1_is 2 (some .boolean) 0 0 [.ref (ad 0), .int (zI x)] (mw ad ca n wt k lb pa rd) (fun r w => r = zI (bz (decide (0 ≤ x ∧ x < n))) ∧ w = mw ad ca n wt k lb pa rd) := by
  refine Cz.of (by decide) (Nat.le_of_ble_eq_true rfl) (by simp [Value.category]) ?_
  intro p e R s m args below meth c A Q ls hRf hRl F h hl ret
  have F : fx p m meth c s args cX1_is 2 RX1 A := F
  refine z_join 17 (bz (decide (0 ≤ x ∧ x < n))) (fun J => ?_) ?_
  · refine z_iload_n F hl dX1_is_0 rfl ?_
    refine z_if_lt F 16 dX1_is_1 (fun c1 => ?_) (fun c1 => ?_)
    · refine z_iconst F dX1_is_16 ?_
      exact J _ (bz_df (by omega))
    · refine z_iload_n F hl dX1_is_4 rfl ?_
      refine z_aload_n F hl dX1_is_5 rfl ?_
      refine mo_g0 F h dX1_is_6 ?_
      refine z_icmp_ge F 16 dX1_is_9 (fun c9 => ?_) (fun c9 => ?_)
      · refine z_iconst F dX1_is_16 ?_
        exact J _ (bz_df (by omega))
      · refine z_iconst F dX1_is_12 ?_
        refine z_goto F 17 dX1_is_13 ?_
        exact J _ (bz_dt (by omega))
  · exact ret _ _ _ _ _ _ dX1_is_17 h (bz_01 _) ⟨rfl, rfl⟩
theorem rX1_is {p : Program} {l : Launch} {e : Env} {R : Room} {s : State} {m : MethodId} {args : Array Value} {below : List Frame} {meth : Method} {c : Code} {H : Heap} {locs : List Loc} {Q : State → Prop} {cc : ByteArray} {pc : Nat} {ls : Array Slot} {rest : List Value} {nL : Nat} {A : Nat → Prop} {vs : List (Option Value)} {D : va_G} {ad : Nat → Nat} {ca : Nat → ClassId} {n : Nat} {wt : Nat → Int} {k : Nat} {lb : Nat → Nat} {pa : Nat → Nat} {rd : Nat → Nat} (F : fx p m meth c s args cc nL RX1 A) (h : wh D (mw ad ca n wt k lb pa rd) (mt ca) A s H locs) (hl : lz ls nL vs) (x : Int) {a0 : Int} (hdg : decode cc pc = .ok (.invokevirtual 26, 3)) (kk : ∀ (H1 : Heap) (locs1 : List Loc), wh D (mw ad ca n wt k lb pa rd) (mt ca) A s H1 locs1 → W p l e R s m args below meth c H1 locs1 0 0 Q (F0 m (pc + 3) ls (.int (zI (bz (decide (0 ≤ x ∧ x < n)))) :: rest))) (hx : -2147483648 ≤ x ∧ x < 2147483648 := by first | assumption | omega) (hn : n ≤ 6 := by first | assumption | omega) (e0 : a0 = x := by first | rfl | omega) (hR : 0 + 1 ≤ R.frames ∧ 8 + (2 + 11) + 0 ≤ R.locals := by omega) (hroom : (rest.map fun v => v.category).sum ≤ 8 := by exact Nat.le_of_ble_eq_true rfl) : W p l e R s m args below meth c H locs 0 0 Q (F0 m pc ls (.int (zI a0) :: .ref (ad 0) :: rest)) := by
  rw [e0]
  refine ci_call (ci := 1) (C := RX1) (T := TX1) (N := 6) (n := 1) F h (mX1_is l D ad ca n wt k lb pa rd x hx hn) (lw_V q204 q206 qs11 q20 q207) (by decide +kernel) rfl rfl rfl hR ⟨Nat.zero_le _, Nat.zero_le _⟩ hl rfl hroom hdg (fun r w1 H1 locs1 hp hw => ?_)
  obtain ⟨rfl, rfl⟩ := hp
  exact kk H1 locs1 hw
set_option maxHeartbeats 4000000 in
set_option maxRecDepth 100000 in
theorem mX1_frames (l : Launch) (D : va_G) (ad : Nat → Nat) (ca : Nat → ClassId) (n : Nat) (wt : Nat → Int) (k : Nat) (lb : Nat → Nat) (pa : Nat → Nat) (rd : Nat → Nat)   : Ci l D (mt ca) yX1_frames cX1_frames 1 (some .int) 0 0 [.ref (ad 0)] (mw ad ca n wt k lb pa rd) (fun r w => r = zI ((n : Int)) ∧ w = mw ad ca n wt k lb pa rd) := by
  refine Ci.of (by decide) (Nat.le_of_ble_eq_true rfl) (by simp [Value.category]) ?_
  intro p e R s m args below meth c A Q ls hRf hRl F h hl ret
  have F : fx p m meth c s args cX1_frames 1 RX1 A := F
  refine z_aload_n F hl dX1_frames_0 rfl ?_
  refine mo_g0 F h dX1_frames_1 ?_
  exact ret _ _ _ _ _ _ dX1_frames_4 h ⟨rfl, rfl⟩
set_option maxHeartbeats 4000000 in
set_option maxRecDepth 100000 in
theorem mX1_length (l : Launch) (D : va_G) (ad : Nat → Nat) (ca : Nat → ClassId) (n : Nat) (wt : Nat → Int) (k : Nat) (lb : Nat → Nat) (pa : Nat → Nat) (rd : Nat → Nat)   : Ci l D (mt ca) yX1_length cX1_length 1 (some .int) 0 0 [.ref (ad 0)] (mw ad ca n wt k lb pa rd) (fun r w => r = zI ((k : Int)) ∧ w = mw ad ca n wt k lb pa rd) := by
  refine Ci.of (by decide) (Nat.le_of_ble_eq_true rfl) (by simp [Value.category]) ?_
  intro p e R s m args below meth c A Q ls hRf hRl F h hl ret
  have F : fx p m meth c s args cX1_length 1 RX1 A := F
  refine z_aload_n F hl dX1_length_0 rfl ?_
  refine mo_g2 F h dX1_length_1 ?_
  exact ret _ _ _ _ _ _ dX1_length_4 h ⟨rfl, rfl⟩
set_option maxHeartbeats 4000000 in
set_option maxRecDepth 100000 in
theorem mX1_dropFrame (l : Launch) (D : va_G) (ad : Nat → Nat) (ca : Nat → ClassId) (n : Nat) (wt : Nat → Int) (k : Nat) (lb : Nat → Nat) (pa : Nat → Nat) (rd : Nat → Nat)  (hn : n ≤ 6) : Ci l D (mt ca) yX1_dropFrame cX1_dropFrame 1 (some .int) 0 0 [.ref (ad 0)] (mw ad ca n wt k lb pa rd) (fun r w => r = zI (if n = 0 then -1 else (n : Int) - 1) ∧ w = mw ad ca ((n - 1 : Nat) : Int) wt k lb pa rd) := by
  refine Ci.of (by decide) (Nat.le_of_ble_eq_true rfl) (by simp [Value.category]) ?_
  intro p e R s m args below meth c A Q ls hRf hRl F h hl ret
  have F : fx p m meth c s args cX1_dropFrame 1 RX1 A := F
  refine z_aload_n F hl dX1_dropFrame_0 rfl ?_
  refine mo_g0 F h dX1_dropFrame_1 ?_
  refine z_if_ne F 9 dX1_dropFrame_4 (fun c4 => ?_) (fun c4 => ?_)
  · refine z_aload_n F hl dX1_dropFrame_9 rfl ?_
    refine z_dup F dX1_dropFrame_10 ?_
    refine mo_g0 F h dX1_dropFrame_11 ?_
    refine z_iconst F dX1_dropFrame_14 ?_
    refine z_isub F dX1_dropFrame_15 ?_
    refine mo_p0 F h dX1_dropFrame_16 (fun H locs h => ?_)
    refine z_aload_n F hl dX1_dropFrame_19 rfl ?_
    refine mo_g0 F h dX1_dropFrame_20 ?_
    refine ret _ _ _ _ _ _ dX1_dropFrame_23 h ⟨?_, ?_⟩
    · rw [if_neg (by omega)]
    · rw [show ((n - 1 : Nat) : Int) = (n : Int) - 1 by omega]
  · refine z_iconst F dX1_dropFrame_7 ?_
    refine ret _ _ _ _ _ _ dX1_dropFrame_8 h ⟨?_, ?_⟩
    · rw [if_pos (by omega)]
    · rw [show ((n - 1 : Nat) : Int) = (n : Int) by omega]
set_option maxHeartbeats 4000000 in
set_option maxRecDepth 100000 in
theorem mX1_rub (l : Launch) (D : va_G) (ad : Nat → Nat) (ca : Nat → ClassId) (n : Nat) (wt : Nat → Int) (k : Nat) (lb : Nat → Nat) (pa : Nat → Nat) (rd : Nat → Nat)  (hk : k ≤ 4) : Ci l D (mt ca) yX1_rub cX1_rub 1 (some .int) 0 0 [.ref (ad 0)] (mw ad ca n wt k lb pa rd) (fun r w => r = zI (rbR k lb) ∧ w = mw ad ca n wt ((k - 1 : Nat) : Int) lb pa rd) := by
  refine Ci.of (by decide) (Nat.le_of_ble_eq_true rfl) (by simp [Value.category]) ?_
  intro p e R s m args below meth c A Q ls hRf hRl F h hl ret
  have F : fx p m meth c s args cX1_rub 1 RX1 A := F
  refine z_aload_n F hl dX1_rub_0 rfl ?_
  refine mo_g2 F h dX1_rub_1 ?_
  refine z_if_ne F 9 dX1_rub_4 (fun c4 => ?_) (fun c4 => ?_)
  · refine z_aload_n F hl dX1_rub_9 rfl ?_
    refine z_dup F dX1_rub_10 ?_
    refine mo_g2 F h dX1_rub_11 ?_
    refine z_iconst F dX1_rub_14 ?_
    refine z_isub F dX1_rub_15 ?_
    refine mo_p2 F h dX1_rub_16 (fun H locs h => ?_)
    refine z_aload_n F hl dX1_rub_19 rfl ?_
    refine mo_g3 F h dX1_rub_20 ?_
    refine z_aload_n F hl dX1_rub_23 rfl ?_
    refine mo_g2 F h dX1_rub_24 ?_
    refine mo_l2 F h (k - 1) dX1_rub_27 ?_
    refine ret _ _ _ _ _ _ dX1_rub_28 h ⟨?_, ?_⟩
    · rw [rbR, if_neg (by omega)]
    · rw [show ((k - 1 : Nat) : Int) = (k : Int) - 1 by omega]
  · refine z_iconst F dX1_rub_7 ?_
    refine ret _ _ _ _ _ _ dX1_rub_8 h ⟨?_, ?_⟩
    · rw [rbR, if_pos (by omega)]
    · rw [show ((k - 1 : Nat) : Int) = (k : Int) by omega]
theorem rX1_rub {p : Program} {l : Launch} {e : Env} {R : Room} {s : State} {m : MethodId} {args : Array Value} {below : List Frame} {meth : Method} {c : Code} {H : Heap} {locs : List Loc} {Q : State → Prop} {cc : ByteArray} {pc : Nat} {ls : Array Slot} {rest : List Value} {nL : Nat} {A : Nat → Prop} {vs : List (Option Value)} {D : va_G} {ad : Nat → Nat} {ca : Nat → ClassId} {n : Nat} {wt : Nat → Int} {k : Nat} {lb : Nat → Nat} {pa : Nat → Nat} {rd : Nat → Nat} (F : fx p m meth c s args cc nL RX1 A) (h : wh D (mw ad ca n wt k lb pa rd) (mt ca) A s H locs) (hl : lz ls nL vs)  (hdg : decode cc pc = .ok (.invokevirtual 60, 3)) (kk : ∀ (H1 : Heap) (locs1 : List Loc), wh D (mw ad ca n wt ((k - 1 : Nat) : Int) lb pa rd) (mt ca) A s H1 locs1 → W p l e R s m args below meth c H1 locs1 0 0 Q (F0 m (pc + 3) ls (.int (zI (rbR k lb)) :: rest))) (hk : k ≤ 4 := by first | assumption | omega) (hR : 0 + 1 ≤ R.frames ∧ 8 + (1 + 11) + 0 ≤ R.locals := by omega) (hroom : (rest.map fun v => v.category).sum ≤ 8 := by exact Nat.le_of_ble_eq_true rfl) : W p l e R s m args below meth c H locs 0 0 Q (F0 m pc ls (.ref (ad 0) :: rest)) := by
  refine ci_call (ci := 1) (C := RX1) (T := TX1) (N := 6) (n := 0) F h (mX1_rub l D ad ca n wt k lb pa rd  hk) (lw_V q278 q217 q218 q20 q219) (by decide +kernel) rfl rfl rfl hR ⟨Nat.zero_le _, Nat.zero_le _⟩ hl rfl hroom hdg (fun r w1 H1 locs1 hp hw => ?_)
  obtain ⟨rfl, rfl⟩ := hp
  exact kk H1 locs1 hw
set_option maxHeartbeats 4000000 in
set_option maxRecDepth 100000 in
theorem mX1_write (l : Launch) (D : va_G) (ad : Nat → Nat) (ca : Nat → ClassId) (n : Nat) (wt : Nat → Int) (k : Nat) (lb : Nat → Nat) (pa : Nat → Nat) (rd : Nat → Nat) (x : Int) (hx : -2147483648 ≤ x ∧ x < 2147483648) (hk : k ≤ 4) : Ci l D (mt ca) yX1_write cX1_write 2 (some .int) 0 0 [.ref (ad 0), .int (zI x)] (mw ad ca n wt k lb pa rd) (fun r w => r = zI (wrR k x) ∧ w = mw ad ca n wt (wrK k x) (wrL k lb x) pa rd) := by
  refine Ci.of (by decide) (Nat.le_of_ble_eq_true rfl) (by simp [Value.category]) ?_
  intro p e R s m args below meth c A Q ls hRf hRl F h hl ret
  have F : fx p m meth c s args cX1_write 2 RX1 A := F
  refine z_iload_n F hl dX1_write_0 rfl ?_
  refine z_iconst F dX1_write_1 ?_
  refine z_icmp_lt F 10 dX1_write_2 (fun c2 => ?_) (fun c2 => ?_)
  · refine z_iconst F dX1_write_10 ?_
    refine ret _ _ _ _ _ _ dX1_write_11 h ⟨?_, ?_⟩
    · rw [wrR, if_neg (by omega)]
    · rw [wrK, if_neg (by omega), wrL, if_neg (by omega)]
  · refine z_iload_n F hl dX1_write_5 rfl ?_
    refine z_iconst F dX1_write_6 ?_
    refine z_icmp_le F 12 dX1_write_7 (fun c7 => ?_) (fun c7 => ?_)
    · refine z_aload_n F hl dX1_write_12 rfl ?_
      refine mo_g2 F h dX1_write_13 ?_
      refine z_iconst F dX1_write_16 ?_
      refine z_icmp_lt F 23 dX1_write_17 (fun c17 => ?_) (fun c17 => ?_)
      · refine z_aload_n F hl dX1_write_23 rfl ?_
        refine mo_g3 F h dX1_write_24 ?_
        refine z_aload_n F hl dX1_write_27 rfl ?_
        refine mo_g2 F h dX1_write_28 ?_
        refine z_iload_n F hl dX1_write_31 rfl ?_
        refine mo_s2 F h k x.toNat dX1_write_32 (fun H locs h => ?_)
        refine z_aload_n F hl dX1_write_33 rfl ?_
        refine z_dup F dX1_write_34 ?_
        refine mo_g2 F h dX1_write_35 ?_
        refine z_iconst F dX1_write_38 ?_
        refine z_iadd F dX1_write_39 ?_
        refine mo_p2 F h dX1_write_40 (fun H locs h => ?_)
        refine z_aload_n F hl dX1_write_43 rfl ?_
        refine mo_g2 F h dX1_write_44 ?_
        refine ret _ _ _ _ _ _ dX1_write_47 h ⟨?_, ?_⟩
        · rw [wrR, if_pos (by omega), if_pos (by omega)]
        · rw [wrK, if_pos (by omega), wrL, if_pos (by omega)]; rfl
      · refine z_bipush F dX1_write_20 ?_
        refine ret _ _ _ _ _ _ dX1_write_22 h ⟨?_, ?_⟩
        · rw [wrR, if_pos (by omega), if_neg (by omega)]
        · rw [wrK, if_neg (by omega), wrL, if_neg (by omega)]
    · refine z_iconst F dX1_write_10 ?_
      refine ret _ _ _ _ _ _ dX1_write_11 h ⟨?_, ?_⟩
      · rw [wrR, if_neg (by omega)]
      · rw [wrK, if_neg (by omega), wrL, if_neg (by omega)]
theorem rX1_write {p : Program} {l : Launch} {e : Env} {R : Room} {s : State} {m : MethodId} {args : Array Value} {below : List Frame} {meth : Method} {c : Code} {H : Heap} {locs : List Loc} {Q : State → Prop} {cc : ByteArray} {pc : Nat} {ls : Array Slot} {rest : List Value} {nL : Nat} {A : Nat → Prop} {vs : List (Option Value)} {D : va_G} {ad : Nat → Nat} {ca : Nat → ClassId} {n : Nat} {wt : Nat → Int} {k : Nat} {lb : Nat → Nat} {pa : Nat → Nat} {rd : Nat → Nat} (F : fx p m meth c s args cc nL RX1 A) (h : wh D (mw ad ca n wt k lb pa rd) (mt ca) A s H locs) (hl : lz ls nL vs) (x : Int) {a0 : Int} (hdg : decode cc pc = .ok (.invokevirtual 54, 3)) (kk : ∀ (H1 : Heap) (locs1 : List Loc), wh D (mw ad ca n wt (wrK k x) (wrL k lb x) pa rd) (mt ca) A s H1 locs1 → W p l e R s m args below meth c H1 locs1 0 0 Q (F0 m (pc + 3) ls (.int (zI (wrR k x)) :: rest))) (hx : -2147483648 ≤ x ∧ x < 2147483648 := by first | assumption | omega) (hk : k ≤ 4 := by first | assumption | omega) (e0 : a0 = x := by first | rfl | omega) (hR : 0 + 1 ≤ R.frames ∧ 8 + (2 + 11) + 0 ≤ R.locals := by omega) (hroom : (rest.map fun v => v.category).sum ≤ 8 := by exact Nat.le_of_ble_eq_true rfl) : W p l e R s m args below meth c H locs 0 0 Q (F0 m pc ls (.int (zI a0) :: .ref (ad 0) :: rest)) := by
  rw [e0]
  refine ci_call (ci := 1) (C := RX1) (T := TX1) (N := 6) (n := 1) F h (mX1_write l D ad ca n wt k lb pa rd x hx hk) (lw_V q276 q213 q214 q20 q215) (by decide +kernel) rfl rfl rfl hR ⟨Nat.zero_le _, Nat.zero_le _⟩ hl rfl hroom hdg (fun r w1 H1 locs1 hp hw => ?_)
  obtain ⟨rfl, rfl⟩ := hp
  exact kk H1 locs1 hw
set_option maxHeartbeats 4000000 in
set_option maxRecDepth 100000 in
theorem mX1_weigh (l : Launch) (D : va_G) (ad : Nat → Nat) (ca : Nat → ClassId) (n : Nat) (wt : Nat → Int) (k : Nat) (lb : Nat → Nat) (pa : Nat → Nat) (rd : Nat → Nat) (x y z : Int) (hx : -2147483648 ≤ x ∧ x < 2147483648) (hy : -2147483648 ≤ y ∧ y < 2147483648) (hz : -2147483648 ≤ z ∧ z < 2147483648) (hn : n ≤ 6) : Ci l D (mt ca) yX1_weigh cX1_weigh 4 (some .boolean) 1 21 [.ref (ad 0), .int (zI x), .int (zI y), .int (zI z)] (mw ad ca n wt k lb pa rd) (fun r w => r = zI (bz (decide (wgC n x y z))) ∧ w = mw ad ca n (wgW n wt x y z) k lb pa rd) := by
  refine Cz.of (by decide) (Nat.le_of_ble_eq_true rfl) (by simp [Value.category]) ?_
  intro p e R s m args below meth c A Q ls hRf hRl F h hl ret
  have F : fx p m meth c s args cX1_weigh 4 RX1 A := F
  refine z_aload_n F hl dX1_weigh_0 rfl ?_
  refine z_iload_n F hl dX1_weigh_1 rfl ?_
  refine rX1_is F h hl x dX1_weigh_2 (fun H locs h => ?_)
  refine z_if_eq F 26 dX1_weigh_5 (fun c5 => ?_) (fun c5 => ?_) (bz_in _)
  · have c5 := bz_d0 c5
    refine z_iconst F dX1_weigh_26 ?_
    refine ret _ _ _ _ _ _ dX1_weigh_27 h (Or.inl rfl) ⟨?_, ?_⟩
    · rw [← bz_df (P := wgC n x y z) (by omega)]
    · rw [wgW, if_neg (by omega)]
  · have c5 := bz_d1 c5
    refine z_aload_n F hl dX1_weigh_8 rfl ?_
    refine z_iload_n F hl dX1_weigh_9 rfl ?_
    refine rX1_mark F h hl y dX1_weigh_10 (fun H locs h => ?_)
    refine z_if_eq F 26 dX1_weigh_13 (fun c12 => ?_) (fun c12 => ?_) (bz_in _)
    · have c12 := bz_d0 c12
      refine z_iconst F dX1_weigh_26 ?_
      refine ret _ _ _ _ _ _ dX1_weigh_27 h (Or.inl rfl) ⟨?_, ?_⟩
      · rw [← bz_df (P := wgC n x y z) (by omega)]
      · rw [wgW, if_neg (by omega)]
    · have c12 := bz_d1 c12
      refine z_iload_n F hl dX1_weigh_16 rfl ?_
      refine z_if_lt F 26 dX1_weigh_17 (fun c17 => ?_) (fun c17 => ?_)
      · refine z_iconst F dX1_weigh_26 ?_
        refine ret _ _ _ _ _ _ dX1_weigh_27 h (Or.inl rfl) ⟨?_, ?_⟩
        · rw [← bz_df (P := wgC n x y z) (by omega)]
        · rw [wgW, if_neg (by omega)]
      · refine z_iload_n F hl dX1_weigh_20 rfl ?_
        refine z_bipush F dX1_weigh_21 ?_
        refine z_icmp_le F 28 dX1_weigh_23 (fun c23 => ?_) (fun c23 => ?_)
        · refine z_aload_n F hl dX1_weigh_28 rfl ?_
          refine mo_g1 F h dX1_weigh_29 ?_
          refine z_iconst F dX1_weigh_32 ?_
          refine z_iload_n F hl dX1_weigh_33 rfl ?_
          refine z_imul F dX1_weigh_34 ?_
          refine z_iload_n F hl dX1_weigh_35 rfl ?_
          refine z_iadd F dX1_weigh_36 ?_
          refine z_iload_n F hl dX1_weigh_37 rfl ?_
          refine mo_s1 F h (4 * x.toNat + y.toNat) dX1_weigh_38 (fun H locs h => ?_)
          refine z_iconst F dX1_weigh_39 ?_
          refine ret _ _ _ _ _ _ dX1_weigh_40 h (Or.inr rfl) ⟨?_, ?_⟩
          · rw [← bz_dt (P := wgC n x y z) (by omega)]
          · rw [wgW, if_pos (by omega)]
        · refine z_iconst F dX1_weigh_26 ?_
          refine ret _ _ _ _ _ _ dX1_weigh_27 h (Or.inl rfl) ⟨?_, ?_⟩
          · rw [← bz_df (P := wgC n x y z) (by omega)]
          · rw [wgW, if_neg (by omega)]
set_option maxHeartbeats 4000000 in
set_option maxRecDepth 100000 in
theorem mX1_frame (l : Launch) (D : va_G) (ad : Nat → Nat) (ca : Nat → ClassId) (n : Nat) (wt : Nat → Int) (k : Nat) (lb : Nat → Nat) (pa : Nat → Nat) (rd : Nat → Nat) (x : Int) (hx : -2147483648 ≤ x ∧ x < 2147483648) (hn : n ≤ 6) : Ci l D (mt ca) yX1_frame cX1_frame 5 (some .int) 0 0 [.ref (ad 0), .int (zI x)] (mw ad ca n wt k lb pa rd) (fun r w => r = zI (frR n x) ∧ w = mw ad ca (frN n x) (frW n wt x) k lb pa rd) := by
  refine Ci.of (by decide) (Nat.le_of_ble_eq_true rfl) (by simp [Value.category]) ?_
  intro p e R s m args below meth c A Q ls hRf hRl F h hl ret
  have F : fx p m meth c s args cX1_frame 5 RX1 A := F
  refine z_join 49 (bz (decide (okd x))) (fun J => ?_) ?_
  · refine z_iload_n F hl dX1_frame_0 rfl ?_
    refine z_if_lt F 48 dX1_frame_1 (fun c1 => ?_) (fun c1 => ?_)
    · refine z_iconst F dX1_frame_48 ?_
      exact J _ (bz_df (by omega))
    · refine z_iload_n F hl dX1_frame_4 rfl ?_
      refine z_sipush F dX1_frame_5 ?_
      refine z_icmp_gt F 48 dX1_frame_8 (fun c8 => ?_) (fun c8 => ?_)
      · refine z_iconst F dX1_frame_48 ?_
        exact J _ (bz_df (by omega))
      · refine z_iload_n F hl dX1_frame_11 rfl ?_
        refine z_bipush F dX1_frame_12 ?_
        refine z_irem F dX1_frame_14 ?_
        refine z_bipush F dX1_frame_15 ?_
        refine z_icmp_ge F 48 dX1_frame_17 (fun c17 => ?_) (fun c17 => ?_)
        · refine z_iconst F dX1_frame_48 ?_
          exact J _ (bz_df (by omega))
        · refine z_iload_n F hl dX1_frame_20 rfl ?_
          refine z_bipush F dX1_frame_21 ?_
          refine z_idiv F dX1_frame_23 ?_
          refine z_bipush F dX1_frame_24 ?_
          refine z_irem F dX1_frame_26 ?_
          refine z_bipush F dX1_frame_27 ?_
          refine z_icmp_ge F 48 dX1_frame_29 (fun c29 => ?_) (fun c29 => ?_)
          · refine z_iconst F dX1_frame_48 ?_
            exact J _ (bz_df (by omega))
          · refine z_iload_n F hl dX1_frame_32 rfl ?_
            refine z_bipush F dX1_frame_33 ?_
            refine z_idiv F dX1_frame_35 ?_
            refine z_bipush F dX1_frame_36 ?_
            refine z_irem F dX1_frame_38 ?_
            refine z_bipush F dX1_frame_39 ?_
            refine z_icmp_ge F 48 dX1_frame_41 (fun c41 => ?_) (fun c41 => ?_)
            · refine z_iconst F dX1_frame_48 ?_
              exact J _ (bz_df (by omega))
            · refine z_iconst F dX1_frame_44 ?_
              refine z_goto F 49 dX1_frame_45 ?_
              exact J _ (bz_dt (by omega))
  · refine z_istore_n F hl dX1_frame_49 (fun ls hl => ?_)
    refine z_iload_n F hl dX1_frame_50 rfl ?_
    refine z_if_ne F 56 dX1_frame_51 (fun c51 => ?_) (fun c51 => ?_) (bz_in _)
    · have hok := bz_d1 c51
      have hok2 := hok.1
      refine z_aload_n F hl dX1_frame_56 rfl ?_
      refine mo_g0 F h dX1_frame_57 ?_
      refine z_bipush F dX1_frame_60 ?_
      refine z_icmp_lt F 68 dX1_frame_62 (fun c62 => ?_) (fun c62 => ?_)
      · refine z_iload_n F hl dX1_frame_68 rfl ?_
        refine z_istore_n F hl dX1_frame_69 (fun ls hl => ?_)
        refine z_iconst F dX1_frame_70 ?_
        refine z_istore F hl dX1_frame_71 (fun ls hl => ?_)
        have S2 : ∀ (i : Nat) (y : Int) (wt : Nat → Int) (H : Heap) (locs : List Loc) (ls : Array Slot), i < 4 → (0 ≤ y ∧ y ≤ 8888) → wh D (mw ad ca n wt k lb pa rd) (mt ca) A s H locs → lz ls 5 [some (.ref (ad 0)), some (.int (zI x)), none, some (.int (zI y)), some (.int (zI i))] → (∀ (H : Heap) (locs : List Loc) (ls : Array Slot), wh D (mw ad ca n (up1 wt (4 * n + i) (y % 10)) k lb pa rd) (mt ca) A s H locs → lz ls 5 [some (.ref (ad 0)), some (.int (zI x)), none, some (.int (zI (y / 10))), some (.int (zI ((i + 1 : Nat) : Int)))] → W p l e R s m args below meth c H locs 0 0 Q (F0 m 73 ls [])) → W p l e R s m args below meth c H locs 0 0 Q (F0 m 73 ls []) := by
          intro i y wt H locs ls hi hy h hl kont
          refine z_iload F hl dX1_frame_73 rfl ?_
          refine z_iconst F dX1_frame_75 ?_
          refine z_icmp_ge F 108 dX1_frame_76 (fun c76 => ?_) (fun c76 => ?_)
          · exact absurd c76 (by omega)
          · refine z_aload_n F hl dX1_frame_79 rfl ?_
            refine mo_g1 F h dX1_frame_80 ?_
            refine z_iconst F dX1_frame_83 ?_
            refine z_aload_n F hl dX1_frame_84 rfl ?_
            refine mo_g0 F h dX1_frame_85 ?_
            refine z_imul F dX1_frame_88 ?_
            refine z_iload F hl dX1_frame_89 rfl ?_
            refine z_iadd F dX1_frame_91 ?_
            refine z_iload_n F hl dX1_frame_92 rfl ?_
            refine z_bipush F dX1_frame_93 ?_
            refine z_irem F dX1_frame_95 ?_
            refine mo_s1 F h (4 * n + i) dX1_frame_96 (fun H locs h => ?_)
            refine z_iload_n F hl dX1_frame_97 rfl ?_
            refine z_bipush F dX1_frame_98 ?_
            refine z_idiv F dX1_frame_100 ?_
            refine z_istore_n F hl dX1_frame_101 (fun ls hl => ?_)
            refine z_iinc F hl ((i + 1 : Nat) : Int) dX1_frame_102 rfl (fun ls hl => ?_)
            refine z_goto F 73 dX1_frame_105 ?_
            exact kont H locs ls h hl
        refine S2 0 x wt _ _ ls (by omega) (by omega) h (hl.keep [true, true, false, true, true]) (fun H locs ls h hl => ?_)
        refine S2 1 (x / 10) _ H locs ls (by omega) (by omega) h hl (fun H locs ls h hl => ?_)
        refine S2 2 (x / 10 / 10) _ H locs ls (by omega) (by omega) h hl (fun H locs ls h hl => ?_)
        refine S2 3 (x / 10 / 10 / 10) _ H locs ls (by omega) (by omega) h hl (fun H locs ls h hl => ?_)
        refine z_iload F hl dX1_frame_73 rfl ?_
        refine z_iconst F dX1_frame_75 ?_
        refine z_icmp_ge F 108 dX1_frame_76 (fun c76 => ?_) (fun c76 => ?_)
        · refine z_aload_n F hl dX1_frame_108 rfl ?_
          refine z_dup F dX1_frame_109 ?_
          refine mo_g0 F h dX1_frame_110 ?_
          refine z_iconst F dX1_frame_113 ?_
          refine z_iadd F dX1_frame_114 ?_
          refine mo_p0 F h dX1_frame_115 (fun H locs h => ?_)
          refine z_aload_n F hl dX1_frame_118 rfl ?_
          refine mo_g0 F h dX1_frame_119 ?_
          refine z_iconst F dX1_frame_122 ?_
          refine z_isub F dX1_frame_123 ?_
          refine ret _ _ _ _ _ _ dX1_frame_124 h ⟨?_, ?_⟩
          · rw [frR, if_pos hok, if_pos (by omega), show (n : Int) + 1 - 1 = (n : Int) by omega]
          · rw [frN, if_pos ⟨hok, by omega⟩, frW, if_pos ⟨hok, by omega⟩, show x / 10 / 10 / 10 = x / 1000 by omega, show x / 10 / 10 = x / 100 by omega]; rfl
        · exact absurd c76 (by omega)
      · refine z_bipush F dX1_frame_65 ?_
        refine ret _ _ _ _ _ _ dX1_frame_67 h ⟨?_, ?_⟩
        · rw [frR, if_pos hok, if_neg (by omega)]
        · rw [frN, if_neg (by omega), frW, if_neg (by omega)]
    · have hok := bz_d0 c51
      refine z_iconst F dX1_frame_54 ?_
      refine ret _ _ _ _ _ _ dX1_frame_55 h ⟨?_, ?_⟩
      · rw [frR, if_neg hok]
      · rw [frN, if_neg (fun q => hok q.1), frW, if_neg (fun q => hok q.1)]
set_option maxHeartbeats 4000000 in
set_option maxRecDepth 100000 in
theorem mX1_all (l : Launch) (D : va_G) (ad : Nat → Nat) (ca : Nat → ClassId) (n : Nat) (wt : Nat → Int) (k : Nat) (lb : Nat → Nat) (pa : Nat → Nat) (rd : Nat → Nat)  (hn : n ≤ 6) : Ci l D (mt ca) yX1_all cX1_all 1 (some .int) 0 0 [.ref (ad 0)] (mw ad ca n wt k lb pa rd) (fun r w => r = zI (((4 ^ n : Nat) : Int)) ∧ w = mw ad ca n wt k lb pa rd) := by
  refine Ci.of (by decide) (Nat.le_of_ble_eq_true rfl) (by simp [Value.category]) ?_
  intro p e R s m args below meth c A Q ls hRf hRl F h hl ret
  have F : fx p m meth c s args cX1_all 1 RX1 A := F
  refine z_iconst F dX1_all_0 ?_
  refine z_iconst F dX1_all_1 ?_
  refine z_aload_n F hl dX1_all_2 rfl ?_
  refine mo_g0 F h dX1_all_3 ?_
  refine z_imul F dX1_all_6 ?_
  refine z_top ((2 * n : Nat) : Int) (by omega) ?_
  refine lv_ishl F.1 F.2.1 dX1_all_7 ?_
  have h4 : 4 ^ n ≤ 4 ^ 6 := Nat.pow_le_pow_right (by decide) hn
  have e4 : 2 ^ (2 * n) = 4 ^ n := by rw [Nat.pow_mul]
  rw [show zI 1 <<< (zI ((2 * n : Nat) : Int) &&& 31) = zI ((1 * 2 ^ (2 * n) : Nat) : Int) from zI_shl (a := 1) (b := 2 * n) (by omega) (by rw [e4]; omega)]
  rw [Nat.one_mul, e4]
  exact ret _ _ _ _ _ _ dX1_all_8 h ⟨rfl, rfl⟩
theorem rX1_all {p : Program} {l : Launch} {e : Env} {R : Room} {s : State} {m : MethodId} {args : Array Value} {below : List Frame} {meth : Method} {c : Code} {H : Heap} {locs : List Loc} {Q : State → Prop} {cc : ByteArray} {pc : Nat} {ls : Array Slot} {rest : List Value} {nL : Nat} {A : Nat → Prop} {vs : List (Option Value)} {D : va_G} {ad : Nat → Nat} {ca : Nat → ClassId} {n : Nat} {wt : Nat → Int} {k : Nat} {lb : Nat → Nat} {pa : Nat → Nat} {rd : Nat → Nat} (F : fx p m meth c s args cc nL RX1 A) (h : wh D (mw ad ca n wt k lb pa rd) (mt ca) A s H locs) (hl : lz ls nL vs)  (hdg : decode cc pc = .ok (.invokevirtual 40, 3)) (kk : ∀ (H1 : Heap) (locs1 : List Loc), wh D (mw ad ca n wt k lb pa rd) (mt ca) A s H1 locs1 → W p l e R s m args below meth c H1 locs1 0 0 Q (F0 m (pc + 3) ls (.int (zI (((4 ^ n : Nat) : Int))) :: rest))) (hn : n ≤ 6 := by first | assumption | omega) (hR : 0 + 1 ≤ R.frames ∧ 8 + (1 + 11) + 0 ≤ R.locals := by omega) (hroom : (rest.map fun v => v.category).sum ≤ 8 := by exact Nat.le_of_ble_eq_true rfl) : W p l e R s m args below meth c H locs 0 0 Q (F0 m pc ls (.ref (ad 0) :: rest)) := by
  refine ci_call (ci := 1) (C := RX1) (T := TX1) (N := 6) (n := 0) F h (mX1_all l D ad ca n wt k lb pa rd  hn) (lw_V q232 q234 qs13 q20 q235) (by decide +kernel) rfl rfl rfl hR ⟨Nat.zero_le _, Nat.zero_le _⟩ hl rfl hroom hdg (fun r w1 H1 locs1 hp hw => ?_)
  obtain ⟨rfl, rfl⟩ := hp
  exact kk H1 locs1 hw
theorem dg_lt (n x t : Nat) : dg n x t < 4 := Nat.mod_lt _ (by decide)
set_option maxHeartbeats 4000000 in
set_option maxRecDepth 100000 in
theorem mX1_spell (l : Launch) (D : va_G) (ad : Nat → Nat) (ca : Nat → ClassId) (n : Nat) (wt : Nat → Int) (k : Nat) (lb : Nat → Nat) (pa : Nat → Nat) (rd : Nat → Nat) (x : Nat) (hx : x < 4096) (hn : n ≤ 6) : Ci l D (mt ca) yX1_spell cX1_spell 4 (some .int) 0 0 [.ref (ad 0), .int (zI (x : Int))] (mw ad ca n wt k lb pa rd) (fun r w => ∃ (pa' : Nat → Nat), r = zI (pw wt n x) ∧ w = mw ad ca n wt k lb pa' rd ∧ (∀ t, t < n → pa' t = dg n x t)) := by
  refine Ci.of (by decide) (Nat.le_of_ble_eq_true rfl) (by simp [Value.category]) ?_
  intro p e R s m args below meth c A Q ls hRf hRl F h hl ret
  have F : fx p m meth c s args cX1_spell 4 RX1 A := F
  refine z_iconst F dX1_spell_0 ?_
  refine z_istore_n F hl dX1_spell_1 (fun ls hl => ?_)
  refine z_iconst F dX1_spell_2 ?_
  refine z_istore_n F hl dX1_spell_3 (fun ls hl => ?_)
  have L : ∀ (d t : Nat) (z : Int) (pa : Nat → Nat) (H : Heap) (locs : List Loc) (ls : Array Slot), t + d = n → z = pdn (fun t => wt (4 * t + dg n x t)) t → (∀ t', t' < t → pa t' = dg n x t') → wh D (mw ad ca n wt k lb pa rd) (mt ca) A s H locs → lz ls 4 [some (.ref (ad 0)), some (.int (zI x)), some (.int (zI z)), some (.int (zI t))] → W p l e R s m args below meth c H locs 0 0 Q (F0 m 4 ls []) := by
    intro d
    induction d with
    | zero =>
      intro t z pa H locs ls ht hz hp h hl
      refine z_iload_n F hl dX1_spell_4 rfl ?_
      refine z_aload_n F hl dX1_spell_5 rfl ?_
      refine mo_g0 F h dX1_spell_6 ?_
      refine z_icmp_ge F 56 dX1_spell_9 (fun c9 => ?_) (fun c9 => ?_)
      · refine z_iload_n F hl dX1_spell_56 rfl ?_
        refine ret _ _ _ _ _ _ dX1_spell_57 h ⟨pa, ?_, rfl, fun t' h1 => hp t' (by omega)⟩
        rw [hz, pw, show t = n by omega]
      · exact absurd c9 (by omega)
    | succ d ih =>
      intro t z pa H locs ls ht hz hp h hl
      have hd4 := dg_lt n x t
      refine z_iload_n F hl dX1_spell_4 rfl ?_
      refine z_aload_n F hl dX1_spell_5 rfl ?_
      refine mo_g0 F h dX1_spell_6 ?_
      refine z_icmp_ge F 56 dX1_spell_9 (fun c9 => ?_) (fun c9 => ?_)
      · exact absurd c9 (by omega)
      · refine z_aload_n F hl dX1_spell_12 rfl ?_
        refine mo_g4 F h dX1_spell_13 ?_
        refine z_iload_n F hl dX1_spell_16 rfl ?_
        refine z_iload_n F hl dX1_spell_17 rfl ?_
        refine z_iconst F dX1_spell_18 ?_
        refine z_aload_n F hl dX1_spell_19 rfl ?_
        refine mo_g0 F h dX1_spell_20 ?_
        refine z_iconst F dX1_spell_23 ?_
        refine z_isub F dX1_spell_24 ?_
        refine z_iload_n F hl dX1_spell_25 rfl ?_
        refine z_isub F dX1_spell_26 ?_
        refine z_imul F dX1_spell_27 ?_
        refine z_top ((2 * (n - 1 - t) : Nat) : Int) (by omega) ?_
        refine lv_ishr F.1 F.2.1 dX1_spell_28 ?_
        rw [zI_shr (a := x) (b := 2 * (n - 1 - t)) (by omega) (by omega)]
        refine z_iconst F dX1_spell_29 ?_
        refine lv_iand F.1 F.2.1 dX1_spell_30 ?_
        rw [show zI ((x / 2 ^ (2 * (n - 1 - t)) : Nat) : Int) &&& zI 3 = zI ((x / 2 ^ (2 * (n - 1 - t)) % 2 ^ 2 : Nat) : Int) from zI_and (b := 3) (Nat.lt_of_le_of_lt (Nat.div_le_self _ _) (by omega)) 2 (by decide)]
        refine mo_s3 F h t (dg n x t) dX1_spell_31 (fun H locs h => ?_) (by omega) rfl (by rw [dg, Nat.pow_mul])
        refine z_iload_n F hl dX1_spell_32 rfl ?_
        refine z_aload_n F hl dX1_spell_33 rfl ?_
        refine mo_g1 F h dX1_spell_34 ?_
        refine z_iconst F dX1_spell_37 ?_
        refine z_iload_n F hl dX1_spell_38 rfl ?_
        refine z_imul F dX1_spell_39 ?_
        refine z_aload_n F hl dX1_spell_40 rfl ?_
        refine mo_g4 F h dX1_spell_41 ?_
        refine z_iload_n F hl dX1_spell_44 rfl ?_
        refine mo_l3 F h t dX1_spell_45 ?_
        rw [up1_s]
        refine z_iadd F dX1_spell_46 ?_
        refine mo_l1 F h (4 * t + dg n x t) dX1_spell_47 ?_
        refine z_imul F dX1_spell_48 ?_
        refine z_istore_n F hl dX1_spell_49 (fun ls hl => ?_)
        refine z_iinc F hl ((t + 1 : Nat) : Int) dX1_spell_50 rfl (fun ls hl => ?_)
        refine z_goto F 4 dX1_spell_53 ?_
        refine ih (t + 1) _ _ H locs ls (by omega) ?_ (fun t' h1 => ?_) h hl
        · rw [hz]; rfl
        · rcases Nat.lt_or_ge t' t with q | q
          · rw [up1_n (by omega)]; exact hp t' q
          · obtain rfl : t' = t := by omega
            rw [up1_s]
  exact L n 0 1 pa _ _ ls (by omega) rfl (fun t' h1 => absurd h1 (by omega)) h hl
theorem rX1_spell {p : Program} {l : Launch} {e : Env} {R : Room} {s : State} {m : MethodId} {args : Array Value} {below : List Frame} {meth : Method} {c : Code} {H : Heap} {locs : List Loc} {Q : State → Prop} {cc : ByteArray} {pc : Nat} {ls : Array Slot} {rest : List Value} {nL : Nat} {A : Nat → Prop} {vs : List (Option Value)} {D : va_G} {ad : Nat → Nat} {ca : Nat → ClassId} {n : Nat} {wt : Nat → Int} {k : Nat} {lb : Nat → Nat} {pa : Nat → Nat} {rd : Nat → Nat} (F : fx p m meth c s args cc nL RX1 A) (h : wh D (mw ad ca n wt k lb pa rd) (mt ca) A s H locs) (hl : lz ls nL vs) (x : Nat) {a0 : Int} (hdg : decode cc pc = .ok (.invokevirtual 43, 3)) (kk : ∀ (pa' : Nat → Nat) (H1 : Heap) (locs1 : List Loc), (∀ t, t < n → pa' t = dg n x t) → wh D (mw ad ca n wt k lb pa' rd) (mt ca) A s H1 locs1 → W p l e R s m args below meth c H1 locs1 0 0 Q (F0 m (pc + 3) ls (.int (zI (pw wt n x)) :: rest))) (hx : x < 4096 := by first | assumption | omega) (hn : n ≤ 6 := by first | assumption | omega) (e0 : a0 = (x : Int) := by first | rfl | omega) (hR : 0 + 1 ≤ R.frames ∧ 8 + (4 + 11) + 0 ≤ R.locals := by omega) (hroom : (rest.map fun v => v.category).sum ≤ 8 := by exact Nat.le_of_ble_eq_true rfl) : W p l e R s m args below meth c H locs 0 0 Q (F0 m pc ls (.int (zI a0) :: .ref (ad 0) :: rest)) := by
  rw [e0]
  refine ci_call (ci := 1) (C := RX1) (T := TX1) (N := 6) (n := 1) F h (mX1_spell l D ad ca n wt k lb pa rd x hx hn) (lw_V q236 q238 qs14 q20 q239) (by decide +kernel) rfl rfl rfl hR ⟨Nat.zero_le _, Nat.zero_le _⟩ hl rfl hroom hdg (fun r w1 H1 locs1 hp hw => ?_)
  obtain ⟨pa', rfl, rfl, hP⟩ := hp
  exact kk pa' H1 locs1 hP hw
theorem rl_len (pa : Nat → Nat) : ∀ t, (rl pa t).length ≤ t
  | 0 => Nat.le_refl _
  | t + 1 => by
    have := rl_len pa t
    unfold rl; split
    · rw [List.length_append]; simp; exact this
    · omega
theorem rl_mem {pa : Nat → Nat} : ∀ {t v : Nat}, v ∈ rl pa t → ∃ t', t' < t ∧ pa t' = v
  | 0, v, h => by simp [rl] at h
  | t + 1, v, h => by
    unfold rl at h
    split at h
    · rcases List.mem_append.mp h with h | h
      · obtain ⟨t', h1, h2⟩ := rl_mem h
        exact ⟨t', by omega, h2⟩
      · exact ⟨t, by omega, (show v = pa t by simpa using h).symm⟩
    · obtain ⟨t', h1, h2⟩ := rl_mem h
      exact ⟨t', by omega, h2⟩
theorem rl_congr {pa pb : Nat → Nat} : ∀ {t : Nat}, (∀ t', t' < t → pa t' = pb t') → rl pa t = rl pb t
  | 0, _ => rfl
  | t + 1, h => by
    unfold rl
    rw [rl_congr (t := t) (fun t' h1 => h t' (by omega)), h t (by omega)]
    by_cases h0 : t = 0
    · subst h0; simp
    · rw [h (t - 1) (by omega)]
set_option maxHeartbeats 4000000 in
set_option maxRecDepth 100000 in
theorem mX1_reads (l : Launch) (D : va_G) (ad : Nat → Nat) (ca : Nat → ClassId) (n : Nat) (wt : Nat → Int) (k : Nat) (lb : Nat → Nat) (pa : Nat → Nat) (rd : Nat → Nat)  (hn : n ≤ 6) (hq : ∀ t, t < n → pa t ≤ 3) : Ci l D (mt ca) yX1_reads cX1_reads 4 (some .int) 0 0 [.ref (ad 0)] (mw ad ca n wt k lb pa rd) (fun r w => ∃ (rd' : Nat → Nat), r = zI (((rl pa n).length : Int)) ∧ w = mw ad ca n wt k lb pa rd' ∧ (∀ j v, (rl pa n)[j]? = some v → rd' j = v)) := by
  refine Ci.of (by decide) (Nat.le_of_ble_eq_true rfl) (by simp [Value.category]) ?_
  intro p e R s m args below meth c A Q ls hRf hRl F h hl ret
  have F : fx p m meth c s args cX1_reads 4 RX1 A := F
  refine z_iconst F dX1_reads_0 ?_
  refine z_istore_n F hl dX1_reads_1 (fun ls hl => ?_)
  refine z_iconst F dX1_reads_2 ?_
  refine z_istore_n F hl dX1_reads_3 (fun ls hl => ?_)
  have L : ∀ (d t : Nat) (rd : Nat → Nat) (H : Heap) (locs : List Loc) (ls : Array Slot), t + d = n → (∀ j v, (rl pa t)[j]? = some v → rd j = v) → wh D (mw ad ca n wt k lb pa rd) (mt ca) A s H locs → lz ls 4 [some (.ref (ad 0)), some (.int (zI ((rl pa t).length : Int))), some (.int (zI t)), none] → W p l e R s m args below meth c H locs 0 0 Q (F0 m 4 ls []) := by
    intro d
    induction d with
    | zero =>
      intro t rd H locs ls ht hr h hl
      obtain rfl : t = n := by omega
      refine z_iload_n F hl dX1_reads_4 rfl ?_
      refine z_aload_n F hl dX1_reads_5 rfl ?_
      refine mo_g0 F h dX1_reads_6 ?_
      refine z_icmp_ge F 73 dX1_reads_9 (fun c9 => ?_) (fun c9 => ?_)
      · refine z_iload_n F hl dX1_reads_73 rfl ?_
        exact ret _ _ _ _ _ _ dX1_reads_74 h ⟨rd, rfl, rfl, hr⟩
      · exact absurd c9 (by omega)
    | succ d ih =>
      intro t rd H locs ls ht hr h hl
      have hlen := rl_len pa t
      have hpt := hq t (by omega)
      refine z_iload_n F hl dX1_reads_4 rfl ?_
      refine z_aload_n F hl dX1_reads_5 rfl ?_
      refine mo_g0 F h dX1_reads_6 ?_
      refine z_icmp_ge F 73 dX1_reads_9 (fun c9 => ?_) (fun c9 => ?_)
      · exact absurd c9 (by omega)
      · refine z_join 38 (bz (decide (t = 0 ∨ pa t ≠ pa (t - 1)))) (fun J => ?_) ?_
        · refine z_iload_n F hl dX1_reads_12 rfl ?_
          refine z_if_eq F 33 dX1_reads_13 (fun c13 => ?_) (fun c13 => ?_)
          · refine z_iconst F dX1_reads_33 ?_
            refine z_goto F 38 dX1_reads_34 ?_
            exact J _ (bz_dt (by omega))
          · have hpt2 := hq (t - 1) (by omega)
            refine z_aload_n F hl dX1_reads_16 rfl ?_
            refine mo_g4 F h dX1_reads_17 ?_
            refine z_iload_n F hl dX1_reads_20 rfl ?_
            refine mo_l3 F h t dX1_reads_21 ?_
            refine z_aload_n F hl dX1_reads_22 rfl ?_
            refine mo_g4 F h dX1_reads_23 ?_
            refine z_iload_n F hl dX1_reads_26 rfl ?_
            refine z_iconst F dX1_reads_27 ?_
            refine z_isub F dX1_reads_28 ?_
            refine mo_l3 F h (t - 1) dX1_reads_29 ?_
            refine z_icmp_eq F 37 dX1_reads_30 (fun c30 => ?_) (fun c30 => ?_)
            · refine z_iconst F dX1_reads_37 ?_
              exact J _ (bz_df (by omega))
            · refine z_iconst F dX1_reads_33 ?_
              refine z_goto F 38 dX1_reads_34 ?_
              exact J _ (bz_dt (by omega))
        · refine z_istore_n F hl dX1_reads_38 (fun ls hl => ?_)
          refine z_iload_n F hl dX1_reads_39 rfl ?_
          have same : ¬ ((t = 0 ∨ pa t ≠ pa (t - 1)) ∧ pa t ≠ 0) → ∀ (ls : Array Slot), lz ls 4 [some (.ref (ad 0)), some (.int (zI ((rl pa t).length : Int))), some (.int (zI t)), none] → W p l e R s m args below meth c H locs 0 0 Q (F0 m 67 ls []) := by
            intro hn ls hl
            have e1 : rl pa (t + 1) = rl pa t := by rw [rl, if_neg hn]
            refine z_iinc F hl ((t + 1 : Nat) : Int) dX1_reads_67 rfl (fun ls hl => ?_)
            refine z_goto F 4 dX1_reads_70 ?_
            refine ih (t + 1) rd H locs ls (by omega) ?_ h ?_
            · rw [e1]; exact hr
            · rw [e1]; exact hl
          refine z_if_eq F 67 dX1_reads_40 (fun c40 => ?_) (fun c40 => ?_) (bz_in _)
          · exact same (fun q => bz_d0 c40 q.1) ls (hl.keep [true, true, true, false])
          · have c40 := bz_d1 c40
            refine z_aload_n F hl dX1_reads_43 rfl ?_
            refine mo_g4 F h dX1_reads_44 ?_
            refine z_iload_n F hl dX1_reads_47 rfl ?_
            refine mo_l3 F h t dX1_reads_48 ?_
            refine z_if_eq F 67 dX1_reads_49 (fun c49 => ?_) (fun c49 => ?_)
            · exact same (by omega) ls (hl.keep [true, true, true, false])
            · have e1 : rl pa (t + 1) = rl pa t ++ [pa t] := by rw [rl, if_pos ⟨c40, by omega⟩]
              refine z_aload_n F hl dX1_reads_52 rfl ?_
              refine mo_g5 F h dX1_reads_53 ?_
              refine z_iload_n F hl dX1_reads_56 rfl ?_
              refine z_aload_n F hl dX1_reads_57 rfl ?_
              refine mo_g4 F h dX1_reads_58 ?_
              refine z_iload_n F hl dX1_reads_61 rfl ?_
              refine mo_l3 F h t dX1_reads_62 ?_
              refine mo_s4 F h (rl pa t).length (pa t) dX1_reads_63 (fun H locs h => ?_)
              refine z_iinc F hl (((rl pa t).length + 1 : Nat) : Int) dX1_reads_64 rfl (fun ls hl => ?_)
              refine z_iinc F hl ((t + 1 : Nat) : Int) dX1_reads_67 rfl (fun ls hl => ?_)
              refine z_goto F 4 dX1_reads_70 ?_
              refine ih (t + 1) _ H locs ls (by omega) ?_ h ?_
              · intro j v hj
                rw [e1, List.getElem?_append] at hj
                split at hj
                · rw [up1_n (by omega)]
                  exact hr j v hj
                · next g =>
                  have hz : j - (rl pa t).length = 0 := by
                    have := (List.getElem?_eq_some_iff.mp hj).1
                    simp at this; omega
                  rw [hz] at hj
                  obtain rfl : pa t = v := by simpa using hj
                  rw [show j = (rl pa t).length by omega, up1_s]
              · rw [e1, List.length_append]
                exact hl.keep [true, true, true, false]
  exact L n 0 rd _ _ ls (by omega) (fun j v hj => by simp [rl] at hj) h (hl.keep [true, true, true, false])
theorem rX1_reads {p : Program} {l : Launch} {e : Env} {R : Room} {s : State} {m : MethodId} {args : Array Value} {below : List Frame} {meth : Method} {c : Code} {H : Heap} {locs : List Loc} {Q : State → Prop} {cc : ByteArray} {pc : Nat} {ls : Array Slot} {rest : List Value} {nL : Nat} {A : Nat → Prop} {vs : List (Option Value)} {D : va_G} {ad : Nat → Nat} {ca : Nat → ClassId} {n : Nat} {wt : Nat → Int} {k : Nat} {lb : Nat → Nat} {pa : Nat → Nat} {rd : Nat → Nat} (F : fx p m meth c s args cc nL RX1 A) (h : wh D (mw ad ca n wt k lb pa rd) (mt ca) A s H locs) (hl : lz ls nL vs)  (hdg : decode cc pc = .ok (.invokevirtual 36, 3)) (kk : ∀ (rd' : Nat → Nat) (H1 : Heap) (locs1 : List Loc), (∀ j v, (rl pa n)[j]? = some v → rd' j = v) → wh D (mw ad ca n wt k lb pa rd') (mt ca) A s H1 locs1 → W p l e R s m args below meth c H1 locs1 0 0 Q (F0 m (pc + 3) ls (.int (zI (((rl pa n).length : Int))) :: rest))) (hn : n ≤ 6 := by first | assumption | omega) (hq : ∀ t, t < n → pa t ≤ 3 := by first | assumption | omega) (hR : 0 + 1 ≤ R.frames ∧ 8 + (4 + 11) + 0 ≤ R.locals := by omega) (hroom : (rest.map fun v => v.category).sum ≤ 8 := by exact Nat.le_of_ble_eq_true rfl) : W p l e R s m args below meth c H locs 0 0 Q (F0 m pc ls (.ref (ad 0) :: rest)) := by
  refine ci_call (ci := 1) (C := RX1) (T := TX1) (N := 6) (n := 0) F h (mX1_reads l D ad ca n wt k lb pa rd  hn hq) (lw_V q244 q246 qs16 q20 q247) (by decide +kernel) rfl rfl rfl hR ⟨Nat.zero_le _, Nat.zero_le _⟩ hl rfl hroom hdg (fun r w1 H1 locs1 hp hw => ?_)
  obtain ⟨rd', rfl, rfl, hP⟩ := hp
  exact kk rd' H1 locs1 hP hw
/-- 'fits' behind j marks -/
def ftj (lb : Nat → Nat) (k : Nat) (L : List Nat) (x j : Nat) : Bool := decide ((x = 0 → L.length = k) ∧ (x ≠ 0 → k ≤ L.length)) && decide (∀ i, i < j → L[i]? = some (lb i))
theorem ftj_f {lb : Nat → Nat} {k : Nat} {L : List Nat} {x j : Nat} (hj : j ≤ k) (h : ftj lb k L x j = false) : fit lb k L x = false := by
  cases hf : fit lb k L x with
  | false => rfl
  | true =>
    unfold fit at hf
    rw [Bool.and_eq_true] at hf
    rw [← h, ftj, hf.1, Bool.true_and]
    exact (decide_eq_true (fun i hi => of_decide_eq_true hf.2 i (by omega))).symm
set_option maxHeartbeats 4000000 in
set_option maxRecDepth 100000 in
theorem mX1_fits (l : Launch) (D : va_G) (ad : Nat → Nat) (ca : Nat → ClassId) (n : Nat) (wt : Nat → Int) (k : Nat) (lb : Nat → Nat) (pa : Nat → Nat) (rd : Nat → Nat) (x : Nat) (hx : x ≤ 1) (hn : n ≤ 6) (hk : k ≤ 4) (hb : ∀ j, lb j ≤ 3) (hq : ∀ t, t < n → pa t ≤ 3) : Ci l D (mt ca) yX1_fits cX1_fits 5 (some .boolean) 1 23 [.ref (ad 0), .int (zI (x : Int))] (mw ad ca n wt k lb pa rd) (fun r w => ∃ (rd' : Nat → Nat), r = zI (bz (fit lb k (rl pa n) x)) ∧ w = mw ad ca n wt k lb pa rd') := by
  refine Cz.of (by decide) (Nat.le_of_ble_eq_true rfl) (by simp [Value.category]) ?_
  intro p e R s m args below meth c A Q ls hRf hRl F h hl ret
  have F : fx p m meth c s args cX1_fits 5 RX1 A := F
  refine z_aload_n F hl dX1_fits_0 rfl ?_
  refine rX1_reads F h hl dX1_fits_1 (fun rd' H locs hr h => ?_)
  have hlen := rl_len pa n
  refine z_istore_n F hl dX1_fits_4 (fun ls hl => ?_)
  refine z_join 38 (bz (ftj lb k (rl pa n) x 0)) (fun J => ?_) ?_
  · refine z_iload_n F hl dX1_fits_5 rfl ?_
    refine z_if_eq F 25 dX1_fits_6 (fun c6 => ?_) (fun c6 => ?_)
    · refine z_iload_n F hl dX1_fits_25 rfl ?_
      refine z_aload_n F hl dX1_fits_26 rfl ?_
      refine mo_g2 F h dX1_fits_27 ?_
      refine z_icmp_ne F 37 dX1_fits_30 (fun c30 => ?_) (fun c30 => ?_)
      · refine z_iconst F dX1_fits_37 ?_
        refine J _ (bz_f ?_)
        rw [ftj, decide_eq_false (by omega), Bool.false_and]
      · refine z_iconst F dX1_fits_33 ?_
        refine z_goto F 38 dX1_fits_34 ?_
        refine J _ (bz_t ?_)
        rw [ftj, decide_eq_true (by omega), Bool.true_and]
        exact decide_eq_true (fun i hi => absurd hi (by omega))
    · refine z_iload_n F hl dX1_fits_9 rfl ?_
      refine z_aload_n F hl dX1_fits_10 rfl ?_
      refine mo_g2 F h dX1_fits_11 ?_
      refine z_icmp_lt F 21 dX1_fits_14 (fun c14 => ?_) (fun c14 => ?_)
      · refine z_iconst F dX1_fits_21 ?_
        refine z_goto F 38 dX1_fits_22 ?_
        refine J _ (bz_f ?_)
        rw [ftj, decide_eq_false (by omega), Bool.false_and]
      · refine z_iconst F dX1_fits_17 ?_
        refine z_goto F 38 dX1_fits_18 ?_
        refine J _ (bz_t ?_)
        rw [ftj, decide_eq_true (by omega), Bool.true_and]
        exact decide_eq_true (fun i hi => absurd hi (by omega))
  · refine z_istore_n F hl dX1_fits_38 (fun ls hl => ?_)
    refine z_iconst F dX1_fits_39 ?_
    refine z_istore F hl dX1_fits_40 (fun ls hl => ?_)
    have Lp : ∀ (d j : Nat) (ls : Array Slot), j + d = k → lz ls 5 [some (.ref (ad 0)), none, none, some (.int (zI (bz (ftj lb k (rl pa n) x j)))), some (.int (zI j))] → W p l e R s m args below meth c H locs 0 0 Q (F0 m 42 ls []) := by
      intro d
      induction d with
      | zero =>
        intro j ls hj hl
        obtain rfl : j = k := by omega
        refine z_iload F hl dX1_fits_42 rfl ?_
        refine z_aload_n F hl dX1_fits_44 rfl ?_
        refine mo_g2 F h dX1_fits_45 ?_
        refine z_icmp_ge F 84 dX1_fits_48 (fun c48 => ?_) (fun c48 => ?_)
        · refine z_iload_n F hl dX1_fits_84 rfl ?_
          exact ret _ _ _ _ _ _ dX1_fits_85 h (bz_01 _) ⟨rd', rfl, rfl⟩
        · exact absurd c48 (by omega)
      | succ d ih =>
        intro j ls hj hl
        refine z_iload F hl dX1_fits_42 rfl ?_
        refine z_aload_n F hl dX1_fits_44 rfl ?_
        refine mo_g2 F h dX1_fits_45 ?_
        refine z_icmp_ge F 84 dX1_fits_48 (fun c48 => ?_) (fun c48 => ?_)
        · exact absurd c48 (by omega)
        · refine z_iload_n F hl dX1_fits_51 rfl ?_
          refine z_if_eq F 84 dX1_fits_52 (fun c52 => ?_) (fun c52 => ?_) (bz_in _)
          · have c52 := bz_e0 c52
            refine z_iload_n F hl dX1_fits_84 rfl ?_
            refine ret _ _ _ _ _ _ dX1_fits_85 h (bz_01 _) ⟨rd', ?_, rfl⟩
            rw [c52, ftj_f (by omega) c52]
          · have c52 := bz_n0 c52
            have c52b := c52
            rw [ftj, Bool.and_eq_true] at c52b
            have hc1 := of_decide_eq_true c52b.1
            have hc2 := of_decide_eq_true c52b.2
            obtain ⟨v, hv⟩ : ∃ v, (rl pa n)[j]? = some v := ⟨_, List.getElem?_eq_getElem (show j < (rl pa n).length by omega)⟩
            have hrj := hr j v hv
            have hv3 : v ≤ 3 := by
              obtain ⟨t', h1, h2⟩ := rl_mem (List.mem_of_getElem? hv)
              rw [← h2]; exact hq t' h1
            have hlb := hb j
            have hnew : ftj lb k (rl pa n) x (j + 1) = decide (v = lb j) := by
              rw [ftj, c52b.1, Bool.true_and]
              by_cases hvl : v = lb j
              · rw [decide_eq_true hvl]
                refine decide_eq_true (fun i hi => ?_)
                rcases Nat.lt_or_ge i j with q | q
                · exact hc2 i q
                · obtain rfl : i = j := by omega
                  rw [hv, hvl]
              · rw [decide_eq_false hvl]
                refine decide_eq_false (fun q => hvl ?_)
                have := q j (by omega)
                rw [hv] at this
                simpa using this
            refine z_join 77 (bz (ftj lb k (rl pa n) x (j + 1))) (fun J => ?_) ?_
            · refine z_aload_n F hl dX1_fits_55 rfl ?_
              refine mo_g5 F h dX1_fits_56 ?_
              refine z_iload F hl dX1_fits_59 rfl ?_
              refine mo_l4 F h j dX1_fits_61 ?_
              rw [hrj]
              refine z_aload_n F hl dX1_fits_62 rfl ?_
              refine mo_g3 F h dX1_fits_63 ?_
              refine z_iload F hl dX1_fits_66 rfl ?_
              refine mo_l2 F h j dX1_fits_68 ?_
              refine z_icmp_ne F 76 dX1_fits_69 (fun c69 => ?_) (fun c69 => ?_)
              · refine z_iconst F dX1_fits_76 ?_
                refine J _ (bz_f ?_)
                rw [hnew]; exact decide_eq_false (by omega)
              · refine z_iconst F dX1_fits_72 ?_
                refine z_goto F 77 dX1_fits_73 ?_
                refine J _ (bz_t ?_)
                rw [hnew]; exact decide_eq_true (by omega)
            · refine z_istore_n F hl dX1_fits_77 (fun ls hl => ?_)
              refine z_iinc F hl ((j + 1 : Nat) : Int) dX1_fits_78 rfl (fun ls hl => ?_)
              refine z_goto F 42 dX1_fits_81 ?_
              exact ih (j + 1) ls (by omega) (hl.keep [true, true, true, true, true])
    exact Lp k 0 ls (by omega) (hl.keep [true, false, false, true, true])
theorem rX1_fits {p : Program} {l : Launch} {e : Env} {R : Room} {s : State} {m : MethodId} {args : Array Value} {below : List Frame} {meth : Method} {c : Code} {H : Heap} {locs : List Loc} {Q : State → Prop} {cc : ByteArray} {pc : Nat} {ls : Array Slot} {rest : List Value} {nL : Nat} {A : Nat → Prop} {vs : List (Option Value)} {D : va_G} {ad : Nat → Nat} {ca : Nat → ClassId} {n : Nat} {wt : Nat → Int} {k : Nat} {lb : Nat → Nat} {pa : Nat → Nat} {rd : Nat → Nat} (F : fx p m meth c s args cc nL RX1 A) (h : wh D (mw ad ca n wt k lb pa rd) (mt ca) A s H locs) (hl : lz ls nL vs) (x : Nat) {a0 : Int} (hdg : decode cc pc = .ok (.invokevirtual 47, 3)) (kk : ∀ (rd' : Nat → Nat) (H1 : Heap) (locs1 : List Loc), wh D (mw ad ca n wt k lb pa rd') (mt ca) A s H1 locs1 → W p l e R s m args below meth c H1 locs1 0 0 Q (F0 m (pc + 3) ls (.int (zI (bz (fit lb k (rl pa n) x))) :: rest))) (hx : x ≤ 1 := by first | assumption | omega) (hn : n ≤ 6 := by first | assumption | omega) (hk : k ≤ 4 := by first | assumption | omega) (hb : ∀ j, lb j ≤ 3 := by first | assumption | omega) (hq : ∀ t, t < n → pa t ≤ 3 := by first | assumption | omega) (e0 : a0 = (x : Int) := by first | rfl | omega) (hR : 1 + 1 ≤ R.frames ∧ 8 + (5 + 11) + 23 ≤ R.locals := by omega) (hroom : (rest.map fun v => v.category).sum ≤ 8 := by exact Nat.le_of_ble_eq_true rfl) : W p l e R s m args below meth c H locs 0 0 Q (F0 m pc ls (.int (zI a0) :: .ref (ad 0) :: rest)) := by
  rw [e0]
  refine ci_call (ci := 1) (C := RX1) (T := TX1) (N := 6) (n := 1) F h (mX1_fits l D ad ca n wt k lb pa rd x hx hn hk hb hq) (lw_V q240 q242 qs15 q20 q243) (by decide +kernel) rfl rfl rfl hR ⟨Nat.zero_le _, Nat.zero_le _⟩ hl rfl hroom hdg (fun r w1 H1 locs1 hp hw => ?_)
  obtain ⟨rd', rfl, rfl⟩ := hp
  exact kk rd' H1 locs1 hw
end
section
/-! THE MODEL: its answers -/
theorem fitc_of {lb : Nat → Nat} {k n c x : Nat} {pa : Nat → Nat} (hP : ∀ t, t < n → pa t = dg n c t) : fit lb k (rl pa n) x = fitc lb k n c x := by
  rw [fitc, rl_congr hP]
theorem pdn_1 : ∀ n, pdn (fun _ => 1) n = 1
  | 0 => rfl
  | n + 1 => by rw [pdn, pdn_1 n]; rfl
theorem pw_1 (n c : Nat) : pw (fun _ => 1) n c = 1 := pdn_1 n
theorem pdn_bd {f : Nat → Int} (hf : ∀ t, 0 ≤ f t ∧ f t ≤ 8) : ∀ n, 0 ≤ pdn f n ∧ pdn f n ≤ ((8 ^ n : Nat) : Int)
  | 0 => by simp [pdn]
  | n + 1 => by
    obtain ⟨h1, h2⟩ := pdn_bd hf n
    refine ⟨Int.mul_nonneg h1 (hf n).1, ?_⟩
    rw [pdn, Nat.pow_succ]
    exact Int.mul_le_mul h2 (hf n).2 (hf n).1 (Int.natCast_nonneg _)
theorem pw_bd {wt : Nat → Int} (hw : ∀ j, 0 ≤ wt j ∧ wt j ≤ 8) {n : Nat} (hn : n ≤ 6) (c : Nat) : 0 ≤ pw wt n c ∧ pw wt n c ≤ 262144 := by
  have h := pdn_bd (f := fun t => wt (4 * t + dg n c t)) (fun t => hw _) n
  have h8 : 8 ^ n ≤ 8 ^ 6 := Nat.pow_le_pow_right (by decide) hn
  refine ⟨h.1, ?_⟩
  have h2 := h.2
  show pdn _ n ≤ _
  omega
theorem mfo_bd {wt : Nat → Int} (hw : ∀ j, 0 ≤ wt j ∧ wt j ≤ 8) (lb : Nat → Nat) (k : Nat) {n : Nat} (hn : n ≤ 6) : ∀ c, (-1 ≤ (mfo wt lb k n c).1 ∧ (mfo wt lb k n c).1 < c) ∧ 0 ≤ (mfo wt lb k n c).2 ∧ (mfo wt lb k n c).2 ≤ 262144
  | 0 => by simp [mfo]
  | c + 1 => by
    have h := mfo_bd hw lb k hn c
    have hp := pw_bd hw hn c
    unfold mfo; split
    · exact ⟨⟨by omega, by omega⟩, hp⟩
    · omega
theorem p4 {n : Nat} (hn : n ≤ 6) : 4 ^ n ≤ 4096 := by
  have h4 : 4 ^ n ≤ 4 ^ 6 := Nat.pow_le_pow_right (by decide) hn
  omega
set_option maxHeartbeats 4000000 in
set_option maxRecDepth 100000 in
theorem mX1_total (l : Launch) (D : va_G) (ad : Nat → Nat) (ca : Nat → ClassId) (n : Nat) (wt : Nat → Int) (k : Nat) (lb : Nat → Nat) (pa : Nat → Nat) (rd : Nat → Nat)  (hn : n ≤ 6) (hk : k ≤ 4) (hb : ∀ j, lb j ≤ 3) : Ci l D (mt ca) yX1_total cX1_total 4 (some .int) 2 47 [.ref (ad 0)] (mw ad ca n wt k lb pa rd) (fun r w => ∃ (pa' : Nat → Nat), ∃ (rd' : Nat → Nat), r = zI (mtot wt lb k n) ∧ w = mw ad ca n wt k lb pa' rd') := by
  refine Ci.of (by decide) (Nat.le_of_ble_eq_true rfl) (by simp [Value.category]) ?_
  intro p e R s m args below meth c A Q ls hRf hRl F h hl ret
  have F : fx p m meth c s args cX1_total 4 RX1 A := F
  have h4 := p4 hn
  refine z_iconst F dX1_total_0 ?_
  refine z_istore_n F hl dX1_total_1 (fun ls hl => ?_)
  refine z_iconst F dX1_total_2 ?_
  refine z_istore_n F hl dX1_total_3 (fun ls hl => ?_)
  have L : ∀ (d q : Nat) (z : Int) (pa rd : Nat → Nat) (H : Heap) (locs : List Loc) (ls : Array Slot), q + d = 4 ^ n → z = sm (fun c => if fitc lb k n c 0 = true then pw wt n c else 0) q → wh D (mw ad ca n wt k lb pa rd) (mt ca) A s H locs → lz ls 4 [some (.ref (ad 0)), some (.int (zI z)), some (.int (zI q)), none] → W p l e R s m args below meth c H locs 0 0 Q (F0 m 4 ls []) := by
    intro d
    induction d with
    | zero =>
      intro q z pa rd H locs ls hq hz h hl
      refine z_iload_n F hl dX1_total_4 rfl ?_
      refine z_aload_n F hl dX1_total_5 rfl ?_
      refine rX1_all F h hl dX1_total_6 (fun H locs h => ?_)
      rw [← hq]
      refine z_icmp_ge F 40 dX1_total_9 (fun c9 => ?_) (fun c9 => ?_)
      · refine z_iload_n F hl dX1_total_40 rfl ?_
        refine ret _ _ _ _ _ _ dX1_total_41 h ⟨pa, rd, ?_, rfl⟩
        rw [hz, mtot, show q = 4 ^ n by omega]
      · exact absurd c9 (by omega)
    | succ d ih =>
      intro q z pa rd H locs ls hq hz h hl
      refine z_iload_n F hl dX1_total_4 rfl ?_
      refine z_aload_n F hl dX1_total_5 rfl ?_
      refine rX1_all F h hl dX1_total_6 (fun H locs h => ?_)
      rw [← hq]
      refine z_icmp_ge F 40 dX1_total_9 (fun c9 => ?_) (fun c9 => ?_)
      · exact absurd c9 (by omega)
      · refine z_aload_n F hl dX1_total_12 rfl ?_
        refine z_iload_n F hl dX1_total_13 rfl ?_
        refine rX1_spell F h hl q dX1_total_14 (fun pa' H locs hP h => ?_)
        refine z_istore_n F hl dX1_total_17 (fun ls hl => ?_)
        refine z_aload_n F hl dX1_total_18 rfl ?_
        refine z_iconst F dX1_total_19 ?_
        refine rX1_fits F h hl 0 dX1_total_20 (fun rd' H locs h => ?_) (hq := fun t ht => by rw [hP t ht]; have := dg_lt n q t; omega)
        rw [fitc_of hP]
        have J : ∀ b : Int, b = z + (if fitc lb k n q 0 = true then pw wt n q else 0) → W p l e R s m args below meth c H locs 0 0 Q (F0 m 33 ls [.int (zI b)]) := by
          intro b hb2
          refine z_istore_n F hl dX1_total_33 (fun ls hl => ?_)
          refine z_iinc F hl ((q + 1 : Nat) : Int) dX1_total_34 rfl (fun ls hl => ?_)
          refine z_goto F 4 dX1_total_37 ?_
          refine ih (q + 1) b pa' rd' H locs ls (by omega) ?_ h (hl.keep [true, true, true, false])
          rw [hb2, hz]; rfl
        refine z_if_eq F 32 dX1_total_23 (fun c23 => ?_) (fun c23 => ?_) (bz_in _)
        · have c23 := bz_e0 c23
          refine z_iload_n F hl dX1_total_32 rfl ?_
          exact J _ (by rw [if_neg (by rw [c23]; decide), Int.add_zero])
        · have c23 := bz_n0 c23
          refine z_iload_n F hl dX1_total_26 rfl ?_
          refine z_iload_n F hl dX1_total_27 rfl ?_
          refine z_iadd F dX1_total_28 ?_
          refine z_goto F 33 dX1_total_29 ?_
          exact J _ (by rw [if_pos c23])
  exact L (4 ^ n) 0 0 pa rd _ _ ls (by omega) rfl h (hl.keep [true, true, true, false])
theorem rX1_total {p : Program} {l : Launch} {e : Env} {R : Room} {s : State} {m : MethodId} {args : Array Value} {below : List Frame} {meth : Method} {c : Code} {H : Heap} {locs : List Loc} {Q : State → Prop} {cc : ByteArray} {pc : Nat} {ls : Array Slot} {rest : List Value} {nL : Nat} {A : Nat → Prop} {vs : List (Option Value)} {D : va_G} {ad : Nat → Nat} {ca : Nat → ClassId} {n : Nat} {wt : Nat → Int} {k : Nat} {lb : Nat → Nat} {pa : Nat → Nat} {rd : Nat → Nat} (F : fx p m meth c s args cc nL RX1 A) (h : wh D (mw ad ca n wt k lb pa rd) (mt ca) A s H locs) (hl : lz ls nL vs)  (hdg : decode cc pc = .ok (.invokevirtual 57, 3)) (kk : ∀ (pa' : Nat → Nat) (rd' : Nat → Nat) (H1 : Heap) (locs1 : List Loc), wh D (mw ad ca n wt k lb pa' rd') (mt ca) A s H1 locs1 → W p l e R s m args below meth c H1 locs1 0 0 Q (F0 m (pc + 3) ls (.int (zI (mtot wt lb k n)) :: rest))) (hn : n ≤ 6 := by first | assumption | omega) (hk : k ≤ 4 := by first | assumption | omega) (hb : ∀ j, lb j ≤ 3 := by first | assumption | omega) (hR : 2 + 1 ≤ R.frames ∧ 8 + (4 + 11) + 47 ≤ R.locals := by omega) (hroom : (rest.map fun v => v.category).sum ≤ 8 := by exact Nat.le_of_ble_eq_true rfl) : W p l e R s m args below meth c H locs 0 0 Q (F0 m pc ls (.ref (ad 0) :: rest)) := by
  refine ci_call (ci := 1) (C := RX1) (T := TX1) (N := 6) (n := 0) F h (mX1_total l D ad ca n wt k lb pa rd  hn hk hb) (lw_V q277 q229 q230 q20 q231) (by decide +kernel) rfl rfl rfl hR ⟨Nat.zero_le _, Nat.zero_le _⟩ hl rfl hroom hdg (fun r w1 H1 locs1 hp hw => ?_)
  obtain ⟨pa', rd', rfl, rfl⟩ := hp
  exact kk pa' rd' H1 locs1 hw
set_option maxHeartbeats 4000000 in
set_option maxRecDepth 100000 in
theorem mX1_paths (l : Launch) (D : va_G) (ad : Nat → Nat) (ca : Nat → ClassId) (n : Nat) (wt : Nat → Int) (k : Nat) (lb : Nat → Nat) (pa : Nat → Nat) (rd : Nat → Nat)  (hn : n ≤ 6) (hk : k ≤ 4) (hb : ∀ j, lb j ≤ 3) : Ci l D (mt ca) yX1_paths cX1_paths 3 (some .int) 2 47 [.ref (ad 0)] (mw ad ca n wt k lb pa rd) (fun r w => ∃ (pa' : Nat → Nat), ∃ (rd' : Nat → Nat), r = zI (mtot (fun _ => 1) lb k n) ∧ w = mw ad ca n wt k lb pa' rd') := by
  refine Ci.of (by decide) (Nat.le_of_ble_eq_true rfl) (by simp [Value.category]) ?_
  intro p e R s m args below meth c A Q ls hRf hRl F h hl ret
  have F : fx p m meth c s args cX1_paths 3 RX1 A := F
  have h4 := p4 hn
  refine z_iconst F dX1_paths_0 ?_
  refine z_istore_n F hl dX1_paths_1 (fun ls hl => ?_)
  refine z_iconst F dX1_paths_2 ?_
  refine z_istore_n F hl dX1_paths_3 (fun ls hl => ?_)
  have L : ∀ (d q : Nat) (z : Int) (pa rd : Nat → Nat) (H : Heap) (locs : List Loc) (ls : Array Slot), q + d = 4 ^ n → z = sm (fun c => if fitc lb k n c 0 = true then pw (fun _ => 1) n c else 0) q → wh D (mw ad ca n wt k lb pa rd) (mt ca) A s H locs → lz ls 3 [some (.ref (ad 0)), some (.int (zI z)), some (.int (zI q))] → W p l e R s m args below meth c H locs 0 0 Q (F0 m 4 ls []) := by
    intro d
    induction d with
    | zero =>
      intro q z pa rd H locs ls hq hz h hl
      refine z_iload_n F hl dX1_paths_4 rfl ?_
      refine z_aload_n F hl dX1_paths_5 rfl ?_
      refine rX1_all F h hl dX1_paths_6 (fun H locs h => ?_)
      rw [← hq]
      refine z_icmp_ge F 40 dX1_paths_9 (fun c9 => ?_) (fun c9 => ?_)
      · refine z_iload_n F hl dX1_paths_40 rfl ?_
        refine ret _ _ _ _ _ _ dX1_paths_41 h ⟨pa, rd, ?_, rfl⟩
        rw [hz, mtot, show q = 4 ^ n by omega]
      · exact absurd c9 (by omega)
    | succ d ih =>
      intro q z pa rd H locs ls hq hz h hl
      refine z_iload_n F hl dX1_paths_4 rfl ?_
      refine z_aload_n F hl dX1_paths_5 rfl ?_
      refine rX1_all F h hl dX1_paths_6 (fun H locs h => ?_)
      rw [← hq]
      refine z_icmp_ge F 40 dX1_paths_9 (fun c9 => ?_) (fun c9 => ?_)
      · exact absurd c9 (by omega)
      · refine z_aload_n F hl dX1_paths_12 rfl ?_
        refine z_iload_n F hl dX1_paths_13 rfl ?_
        refine rX1_spell F h hl q dX1_paths_14 (fun pa' H locs hP h => ?_)
        refine z_pop F dX1_paths_17 ?_
        refine z_aload_n F hl dX1_paths_18 rfl ?_
        refine z_iconst F dX1_paths_19 ?_
        refine rX1_fits F h hl 0 dX1_paths_20 (fun rd' H locs h => ?_) (hq := fun t ht => by rw [hP t ht]; have := dg_lt n q t; omega)
        rw [fitc_of hP]
        have J : ∀ b : Int, b = z + (if fitc lb k n q 0 = true then pw (fun _ => 1) n q else 0) → W p l e R s m args below meth c H locs 0 0 Q (F0 m 33 ls [.int (zI b)]) := by
          intro b hb2
          refine z_istore_n F hl dX1_paths_33 (fun ls hl => ?_)
          refine z_iinc F hl ((q + 1 : Nat) : Int) dX1_paths_34 rfl (fun ls hl => ?_)
          refine z_goto F 4 dX1_paths_37 ?_
          refine ih (q + 1) b pa' rd' H locs ls (by omega) ?_ h (hl.keep [true, true, true])
          rw [hb2, hz]; rfl
        refine z_if_eq F 32 dX1_paths_23 (fun c23 => ?_) (fun c23 => ?_) (bz_in _)
        · have c23 := bz_e0 c23
          refine z_iload_n F hl dX1_paths_32 rfl ?_
          exact J _ (by rw [if_neg (by rw [c23]; decide), Int.add_zero])
        · have c23 := bz_n0 c23
          refine z_iload_n F hl dX1_paths_26 rfl ?_
          refine z_iconst F dX1_paths_27 ?_
          refine z_iadd F dX1_paths_28 ?_
          refine z_goto F 33 dX1_paths_29 ?_
          exact J _ (by rw [if_pos c23, pw_1])
  exact L (4 ^ n) 0 0 pa rd _ _ ls (by omega) rfl h (hl.keep [true, true, true])
set_option maxHeartbeats 4000000 in
set_option maxRecDepth 100000 in
theorem mX1_prefix (l : Launch) (D : va_G) (ad : Nat → Nat) (ca : Nat → ClassId) (n : Nat) (wt : Nat → Int) (k : Nat) (lb : Nat → Nat) (pa : Nat → Nat) (rd : Nat → Nat)  (hn : n ≤ 6) (hk : k ≤ 4) (hb : ∀ j, lb j ≤ 3) : Ci l D (mt ca) yX1_prefix cX1_prefix 4 (some .int) 2 47 [.ref (ad 0)] (mw ad ca n wt k lb pa rd) (fun r w => ∃ (pa' : Nat → Nat), ∃ (rd' : Nat → Nat), r = zI (mpfR wt lb k n) ∧ w = mw ad ca n wt k lb pa' rd') := by
  refine Ci.of (by decide) (Nat.le_of_ble_eq_true rfl) (by simp [Value.category]) ?_
  intro p e R s m args below meth c A Q ls hRf hRl F h hl ret
  have F : fx p m meth c s args cX1_prefix 4 RX1 A := F
  have h4 := p4 hn
  refine z_iconst F dX1_prefix_0 ?_
  refine z_istore_n F hl dX1_prefix_1 (fun ls hl => ?_)
  refine z_iconst F dX1_prefix_2 ?_
  refine z_istore_n F hl dX1_prefix_3 (fun ls hl => ?_)
  have L : ∀ (d q : Nat) (z : Int) (pa rd : Nat → Nat) (H : Heap) (locs : List Loc) (ls : Array Slot), q + d = 4 ^ n → z = sm (fun c => if fitc lb k n c 1 = true then pw wt n c else 0) q → wh D (mw ad ca n wt k lb pa rd) (mt ca) A s H locs → lz ls 4 [some (.ref (ad 0)), some (.int (zI z)), some (.int (zI q)), none] → W p l e R s m args below meth c H locs 0 0 Q (F0 m 4 ls []) := by
    intro d
    induction d with
    | zero =>
      intro q z pa rd H locs ls hq hz h hl
      refine z_iload_n F hl dX1_prefix_4 rfl ?_
      refine z_aload_n F hl dX1_prefix_5 rfl ?_
      refine rX1_all F h hl dX1_prefix_6 (fun H locs h => ?_)
      rw [← hq]
      refine z_icmp_ge F 40 dX1_prefix_9 (fun c9 => ?_) (fun c9 => ?_)
      · refine z_iload_n F hl dX1_prefix_40 rfl ?_
        refine ret _ _ _ _ _ _ dX1_prefix_41 h ⟨pa, rd, ?_, rfl⟩
        rw [hz, mpfR, show q = 4 ^ n by omega]
      · exact absurd c9 (by omega)
    | succ d ih =>
      intro q z pa rd H locs ls hq hz h hl
      refine z_iload_n F hl dX1_prefix_4 rfl ?_
      refine z_aload_n F hl dX1_prefix_5 rfl ?_
      refine rX1_all F h hl dX1_prefix_6 (fun H locs h => ?_)
      rw [← hq]
      refine z_icmp_ge F 40 dX1_prefix_9 (fun c9 => ?_) (fun c9 => ?_)
      · exact absurd c9 (by omega)
      · refine z_aload_n F hl dX1_prefix_12 rfl ?_
        refine z_iload_n F hl dX1_prefix_13 rfl ?_
        refine rX1_spell F h hl q dX1_prefix_14 (fun pa' H locs hP h => ?_)
        refine z_istore_n F hl dX1_prefix_17 (fun ls hl => ?_)
        refine z_aload_n F hl dX1_prefix_18 rfl ?_
        refine z_iconst F dX1_prefix_19 ?_
        refine rX1_fits F h hl 1 dX1_prefix_20 (fun rd' H locs h => ?_) (hq := fun t ht => by rw [hP t ht]; have := dg_lt n q t; omega)
        rw [fitc_of hP]
        have J : ∀ b : Int, b = z + (if fitc lb k n q 1 = true then pw wt n q else 0) → W p l e R s m args below meth c H locs 0 0 Q (F0 m 33 ls [.int (zI b)]) := by
          intro b hb2
          refine z_istore_n F hl dX1_prefix_33 (fun ls hl => ?_)
          refine z_iinc F hl ((q + 1 : Nat) : Int) dX1_prefix_34 rfl (fun ls hl => ?_)
          refine z_goto F 4 dX1_prefix_37 ?_
          refine ih (q + 1) b pa' rd' H locs ls (by omega) ?_ h (hl.keep [true, true, true, false])
          rw [hb2, hz]; rfl
        refine z_if_eq F 32 dX1_prefix_23 (fun c23 => ?_) (fun c23 => ?_) (bz_in _)
        · have c23 := bz_e0 c23
          refine z_iload_n F hl dX1_prefix_32 rfl ?_
          exact J _ (by rw [if_neg (by rw [c23]; decide), Int.add_zero])
        · have c23 := bz_n0 c23
          refine z_iload_n F hl dX1_prefix_26 rfl ?_
          refine z_iload_n F hl dX1_prefix_27 rfl ?_
          refine z_iadd F dX1_prefix_28 ?_
          refine z_goto F 33 dX1_prefix_29 ?_
          exact J _ (by rw [if_pos c23])
  exact L (4 ^ n) 0 0 pa rd _ _ ls (by omega) rfl h (hl.keep [true, true, true, false])
set_option maxHeartbeats 4000000 in
set_option maxRecDepth 100000 in
theorem mX1_everything (l : Launch) (D : va_G) (ad : Nat → Nat) (ca : Nat → ClassId) (n : Nat) (wt : Nat → Int) (k : Nat) (lb : Nat → Nat) (pa : Nat → Nat) (rd : Nat → Nat)  (hn : n ≤ 6) : Ci l D (mt ca) yX1_everything cX1_everything 3 (some .int) 1 23 [.ref (ad 0)] (mw ad ca n wt k lb pa rd) (fun r w => ∃ (pa' : Nat → Nat), r = zI (sm (fun c => pw wt n c) (4 ^ n)) ∧ w = mw ad ca n wt k lb pa' rd) := by
  refine Ci.of (by decide) (Nat.le_of_ble_eq_true rfl) (by simp [Value.category]) ?_
  intro p e R s m args below meth c A Q ls hRf hRl F h hl ret
  have F : fx p m meth c s args cX1_everything 3 RX1 A := F
  have h4 := p4 hn
  refine z_iconst F dX1_everything_0 ?_
  refine z_istore_n F hl dX1_everything_1 (fun ls hl => ?_)
  refine z_iconst F dX1_everything_2 ?_
  refine z_istore_n F hl dX1_everything_3 (fun ls hl => ?_)
  have L : ∀ (d q : Nat) (z : Int) (pa : Nat → Nat) (H : Heap) (locs : List Loc) (ls : Array Slot), q + d = 4 ^ n → z = sm (fun c => pw wt n c) q → wh D (mw ad ca n wt k lb pa rd) (mt ca) A s H locs → lz ls 3 [some (.ref (ad 0)), some (.int (zI z)), some (.int (zI q))] → W p l e R s m args below meth c H locs 0 0 Q (F0 m 4 ls []) := by
    intro d
    induction d with
    | zero =>
      intro q z pa H locs ls hq hz h hl
      refine z_iload_n F hl dX1_everything_4 rfl ?_
      refine z_aload_n F hl dX1_everything_5 rfl ?_
      refine rX1_all F h hl dX1_everything_6 (fun H locs h => ?_)
      rw [← hq]
      refine z_icmp_ge F 26 dX1_everything_9 (fun c9 => ?_) (fun c9 => ?_)
      · refine z_iload_n F hl dX1_everything_26 rfl ?_
        refine ret _ _ _ _ _ _ dX1_everything_27 h ⟨pa, ?_, rfl⟩
        rw [hz, show q = 4 ^ n by omega]
      · exact absurd c9 (by omega)
    | succ d ih =>
      intro q z pa H locs ls hq hz h hl
      refine z_iload_n F hl dX1_everything_4 rfl ?_
      refine z_aload_n F hl dX1_everything_5 rfl ?_
      refine rX1_all F h hl dX1_everything_6 (fun H locs h => ?_)
      rw [← hq]
      refine z_icmp_ge F 26 dX1_everything_9 (fun c9 => ?_) (fun c9 => ?_)
      · exact absurd c9 (by omega)
      · refine z_iload_n F hl dX1_everything_12 rfl ?_
        refine z_aload_n F hl dX1_everything_13 rfl ?_
        refine z_iload_n F hl dX1_everything_14 rfl ?_
        refine rX1_spell F h hl q dX1_everything_15 (fun pa' H locs hP h => ?_)
        refine z_iadd F dX1_everything_18 ?_
        refine z_istore_n F hl dX1_everything_19 (fun ls hl => ?_)
        refine z_iinc F hl ((q + 1 : Nat) : Int) dX1_everything_20 rfl (fun ls hl => ?_)
        refine z_goto F 4 dX1_everything_23 ?_
        refine ih (q + 1) _ pa' H locs ls (by omega) ?_ h hl
        rw [hz]; rfl
  exact L (4 ^ n) 0 0 pa _ _ ls (by omega) rfl h hl
set_option maxHeartbeats 4000000 in
set_option maxRecDepth 100000 in
theorem mX1_first (l : Launch) (D : va_G) (ad : Nat → Nat) (ca : Nat → ClassId) (n : Nat) (wt : Nat → Int) (k : Nat) (lb : Nat → Nat) (pa : Nat → Nat) (rd : Nat → Nat)  (hn : n ≤ 6) (hk : k ≤ 4) (hb : ∀ j, lb j ≤ 3) (hw : ∀ j, 0 ≤ wt j ∧ wt j ≤ 8) : Ci l D (mt ca) yX1_first cX1_first 5 (some .int) 2 47 [.ref (ad 0)] (mw ad ca n wt k lb pa rd) (fun r w => ∃ (pa' : Nat → Nat), ∃ (rd' : Nat → Nat), r = zI ((mfo wt lb k n (4 ^ n)).1) ∧ w = mw ad ca n wt k lb pa' rd') := by
  refine Ci.of (by decide) (Nat.le_of_ble_eq_true rfl) (by simp [Value.category]) ?_
  intro p e R s m args below meth c A Q ls hRf hRl F h hl ret
  have F : fx p m meth c s args cX1_first 5 RX1 A := F
  have h4 := p4 hn
  refine z_iconst F dX1_first_0 ?_
  refine z_istore_n F hl dX1_first_1 (fun ls hl => ?_)
  refine z_iconst F dX1_first_2 ?_
  refine z_istore_n F hl dX1_first_3 (fun ls hl => ?_)
  refine z_iconst F dX1_first_4 ?_
  refine z_istore_n F hl dX1_first_5 (fun ls hl => ?_)
  have L : ∀ (d q : Nat) (f y : Int) (pa rd : Nat → Nat) (H : Heap) (locs : List Loc) (ls : Array Slot), q + d = 4 ^ n → (f, y) = mfo wt lb k n q → wh D (mw ad ca n wt k lb pa rd) (mt ca) A s H locs → lz ls 5 [some (.ref (ad 0)), some (.int (zI f)), some (.int (zI y)), some (.int (zI q)), none] → W p l e R s m args below meth c H locs 0 0 Q (F0 m 6 ls []) := by
    intro d
    induction d with
    | zero =>
      intro q f y pa rd H locs ls hq hf h hl
      refine z_iload_n F hl dX1_first_6 rfl ?_
      refine z_aload_n F hl dX1_first_7 rfl ?_
      refine rX1_all F h hl dX1_first_8 (fun H locs h => ?_)
      rw [← hq]
      refine z_icmp_ge F 50 dX1_first_11 (fun c11 => ?_) (fun c11 => ?_)
      · refine z_iload_n F hl dX1_first_50 rfl ?_
        refine ret _ _ _ _ _ _ dX1_first_51 h ⟨pa, rd, ?_, rfl⟩
        rw [← hq, Nat.add_zero, ← hf]
      · exact absurd c11 (by omega)
    | succ d ih =>
      intro q f y pa rd H locs ls hq hf h hl
      have hbd := mfo_bd hw lb k hn q
      rw [← hf] at hbd
      have hbd : (-1 ≤ f ∧ f < (q : Int)) ∧ 0 ≤ y ∧ y ≤ 262144 := hbd
      have hpw := pw_bd hw hn q
      refine z_iload_n F hl dX1_first_6 rfl ?_
      refine z_aload_n F hl dX1_first_7 rfl ?_
      refine rX1_all F h hl dX1_first_8 (fun H locs h => ?_)
      rw [← hq]
      refine z_icmp_ge F 50 dX1_first_11 (fun c11 => ?_) (fun c11 => ?_)
      · exact absurd c11 (by omega)
      · refine z_aload_n F hl dX1_first_14 rfl ?_
        refine z_iload_n F hl dX1_first_15 rfl ?_
        refine rX1_spell F h hl q dX1_first_16 (fun pa' H locs hP h => ?_)
        refine z_istore F hl dX1_first_19 (fun ls hl => ?_)
        refine z_aload_n F hl dX1_first_21 rfl ?_
        refine z_iconst F dX1_first_22 ?_
        refine rX1_fits F h hl 0 dX1_first_23 (fun rd' H locs h => ?_) (hq := fun t ht => by rw [hP t ht]; have := dg_lt n q t; omega)
        rw [fitc_of hP]
        have nxt : ∀ (f2 y2 : Int) (ls : Array Slot), (f2, y2) = mfo wt lb k n (q + 1) → lz ls 5 [some (.ref (ad 0)), some (.int (zI f2)), some (.int (zI y2)), some (.int (zI q)), none] → W p l e R s m args below meth c H locs 0 0 Q (F0 m 44 ls []) := by
          intro f2 y2 ls h2 hl
          refine z_iinc F hl ((q + 1 : Nat) : Int) dX1_first_44 rfl (fun ls hl => ?_)
          refine z_goto F 6 dX1_first_47 ?_
          exact ih (q + 1) f2 y2 pa' rd' H locs ls (by omega) h2 h hl
        refine z_if_eq F 44 dX1_first_26 (fun c26 => ?_) (fun c26 => ?_) (bz_in _)
        · have c26 := bz_e0 c26
          refine nxt f y ls ?_ (hl.keep [true, true, true, true, false])
          rw [mfo, if_neg (fun q => by rw [c26] at q; exact absurd q.1 (by decide)), ← hf]
        · have c26 := bz_n0 c26
          refine z_iload_n F hl dX1_first_29 rfl ?_
          refine z_if_lt F 39 dX1_first_30 (fun c30 => ?_) (fun c30 => ?_)
          · refine z_iload_n F hl dX1_first_39 rfl ?_
            refine z_istore_n F hl dX1_first_40 (fun ls hl => ?_)
            refine z_iload F hl dX1_first_41 rfl ?_
            refine z_istore_n F hl dX1_first_43 (fun ls hl => ?_)
            refine nxt (q : Int) (pw wt n q) ls ?_ (hl.keep [true, true, true, true, false])
            rw [mfo, ← hf, if_pos ⟨c26, Or.inl c30⟩]
          · refine z_iload F hl dX1_first_33 rfl ?_
            refine z_iload_n F hl dX1_first_35 rfl ?_
            refine z_icmp_le F 44 dX1_first_36 (fun c36 => ?_) (fun c36 => ?_)
            · refine nxt f y ls ?_ (hl.keep [true, true, true, true, false])
              rw [mfo, ← hf, if_neg (fun q => by have : f < 0 ∨ y < pw wt n _ := q.2; omega)]
            · refine z_iload_n F hl dX1_first_39 rfl ?_
              refine z_istore_n F hl dX1_first_40 (fun ls hl => ?_)
              refine z_iload F hl dX1_first_41 rfl ?_
              refine z_istore_n F hl dX1_first_43 (fun ls hl => ?_)
              refine nxt (q : Int) (pw wt n q) ls ?_ (hl.keep [true, true, true, true, false])
              rw [mfo, ← hf, if_pos ⟨c26, Or.inr (show y < pw wt n q by omega)⟩]
  exact L (4 ^ n) 0 (-1) 0 pa rd _ _ ls (by omega) rfl h (hl.keep [true, true, true, true, false])
theorem rX1_first {p : Program} {l : Launch} {e : Env} {R : Room} {s : State} {m : MethodId} {args : Array Value} {below : List Frame} {meth : Method} {c : Code} {H : Heap} {locs : List Loc} {Q : State → Prop} {cc : ByteArray} {pc : Nat} {ls : Array Slot} {rest : List Value} {nL : Nat} {A : Nat → Prop} {vs : List (Option Value)} {D : va_G} {ad : Nat → Nat} {ca : Nat → ClassId} {n : Nat} {wt : Nat → Int} {k : Nat} {lb : Nat → Nat} {pa : Nat → Nat} {rd : Nat → Nat} (F : fx p m meth c s args cc nL RX1 A) (h : wh D (mw ad ca n wt k lb pa rd) (mt ca) A s H locs) (hl : lz ls nL vs)  (hdg : decode cc pc = .ok (.invokevirtual 51, 3)) (kk : ∀ (pa' : Nat → Nat) (rd' : Nat → Nat) (H1 : Heap) (locs1 : List Loc), wh D (mw ad ca n wt k lb pa' rd') (mt ca) A s H1 locs1 → W p l e R s m args below meth c H1 locs1 0 0 Q (F0 m (pc + 3) ls (.int (zI ((mfo wt lb k n (4 ^ n)).1)) :: rest))) (hn : n ≤ 6 := by first | assumption | omega) (hk : k ≤ 4 := by first | assumption | omega) (hb : ∀ j, lb j ≤ 3 := by first | assumption | omega) (hw : ∀ j, 0 ≤ wt j ∧ wt j ≤ 8 := by first | assumption | omega) (hR : 2 + 1 ≤ R.frames ∧ 8 + (5 + 11) + 47 ≤ R.locals := by omega) (hroom : (rest.map fun v => v.category).sum ≤ 8 := by exact Nat.le_of_ble_eq_true rfl) : W p l e R s m args below meth c H locs 0 0 Q (F0 m pc ls (.ref (ad 0) :: rest)) := by
  refine ci_call (ci := 1) (C := RX1) (T := TX1) (N := 6) (n := 0) F h (mX1_first l D ad ca n wt k lb pa rd  hn hk hb hw) (lw_V q256 q258 qs17 q20 q259) (by decide +kernel) rfl rfl rfl hR ⟨Nat.zero_le _, Nat.zero_le _⟩ hl rfl hroom hdg (fun r w1 H1 locs1 hp hw => ?_)
  obtain ⟨pa', rd', rfl, rfl⟩ := hp
  exact kk pa' rd' H1 locs1 hw
set_option maxHeartbeats 4000000 in
set_option maxRecDepth 100000 in
theorem mX1_best (l : Launch) (D : va_G) (ad : Nat → Nat) (ca : Nat → ClassId) (n : Nat) (wt : Nat → Int) (k : Nat) (lb : Nat → Nat) (pa : Nat → Nat) (rd : Nat → Nat)  (hn : n ≤ 6) (hk : k ≤ 4) (hb : ∀ j, lb j ≤ 3) (hw : ∀ j, 0 ≤ wt j ∧ wt j ≤ 8) : Ci l D (mt ca) yX1_best cX1_best 2 (some .int) 3 71 [.ref (ad 0)] (mw ad ca n wt k lb pa rd) (fun r w => ∃ (pa' : Nat → Nat), ∃ (rd' : Nat → Nat), r = zI (mbR wt lb k n) ∧ w = mw ad ca n wt k lb pa' rd') := by
  refine Ci.of (by decide) (Nat.le_of_ble_eq_true rfl) (by simp [Value.category]) ?_
  intro p e R s m args below meth c A Q ls hRf hRl F h hl ret
  have F : fx p m meth c s args cX1_best 2 RX1 A := F
  have h4 := p4 hn
  have hbd := mfo_bd hw lb k hn (4 ^ n)
  refine z_aload_n F hl dX1_best_0 rfl ?_
  refine rX1_first F h hl dX1_best_1 (fun pa' rd' H locs h => ?_)
  refine z_istore_n F hl dX1_best_4 (fun ls hl => ?_)
  refine z_iload_n F hl dX1_best_5 rfl ?_
  refine z_if_ge F 13 dX1_best_6 (fun c6 => ?_) (fun c6 => ?_)
  · refine z_aload_n F hl dX1_best_13 rfl ?_
    refine z_iload_n F hl dX1_best_14 rfl ?_
    refine rX1_spell F h hl (mfo wt lb k n (4 ^ n)).1.toNat dX1_best_15 (fun pa2 H locs hP h => ?_)
    refine ret _ _ _ _ _ _ dX1_best_18 h ⟨pa2, rd', ?_, rfl⟩
    rw [mbR, if_neg (by omega)]
  · refine z_iconst F dX1_best_9 ?_
    refine z_goto F 18 dX1_best_10 ?_
    refine ret _ _ _ _ _ _ dX1_best_18 h ⟨pa', rd', ?_, rfl⟩
    rw [mbR, if_pos (by omega)]
set_option maxHeartbeats 4000000 in
set_option maxRecDepth 100000 in
theorem mX1_bestAt (l : Launch) (D : va_G) (ad : Nat → Nat) (ca : Nat → ClassId) (n : Nat) (wt : Nat → Int) (k : Nat) (lb : Nat → Nat) (pa : Nat → Nat) (rd : Nat → Nat) (x : Int) (hx : -2147483648 ≤ x ∧ x < 2147483648) (hn : n ≤ 6) (hk : k ≤ 4) (hb : ∀ j, lb j ≤ 3) (hw : ∀ j, 0 ≤ wt j ∧ wt j ≤ 8) : Ci l D (mt ca) yX1_bestAt cX1_bestAt 3 (some .int) 3 71 [.ref (ad 0), .int (zI x)] (mw ad ca n wt k lb pa rd) (fun r w => ∃ (pa' : Nat → Nat), ∃ (rd' : Nat → Nat), r = zI (mbaR wt lb k n x) ∧ w = mw ad ca n wt k lb pa' rd') := by
  refine Ci.of (by decide) (Nat.le_of_ble_eq_true rfl) (by simp [Value.category]) ?_
  intro p e R s m args below meth c A Q ls hRf hRl F h hl ret
  have F : fx p m meth c s args cX1_bestAt 3 RX1 A := F
  have h4 := p4 hn
  have hbd := mfo_bd hw lb k hn (4 ^ n)
  refine z_aload_n F hl dX1_bestAt_0 rfl ?_
  refine rX1_first F h hl dX1_bestAt_1 (fun pa' rd' H locs h => ?_)
  refine z_istore_n F hl dX1_bestAt_4 (fun ls hl => ?_)
  refine z_iload_n F hl dX1_bestAt_5 rfl ?_
  refine z_if_lt F 17 dX1_bestAt_6 (fun c6 => ?_) (fun c6 => ?_)
  · refine z_iconst F dX1_bestAt_17 ?_
    refine ret _ _ _ _ _ _ dX1_bestAt_18 h ⟨pa', rd', ?_, rfl⟩
    rw [mbaR, if_pos (Or.inl c6)]
  · refine z_aload_n F hl dX1_bestAt_9 rfl ?_
    refine z_iload_n F hl dX1_bestAt_10 rfl ?_
    refine rX1_is F h hl x dX1_bestAt_11 (fun H locs h => ?_)
    refine z_if_ne F 19 dX1_bestAt_14 (fun c14 => ?_) (fun c14 => ?_) (bz_in _)
    · have c14 := bz_d1 c14
      refine z_aload_n F hl dX1_bestAt_19 rfl ?_
      refine z_iload_n F hl dX1_bestAt_20 rfl ?_
      refine rX1_spell F h hl (mfo wt lb k n (4 ^ n)).1.toNat dX1_bestAt_21 (fun pa2 H locs hP h => ?_)
      refine z_pop F dX1_bestAt_24 ?_
      refine z_aload_n F hl dX1_bestAt_25 rfl ?_
      refine mo_g4 F h dX1_bestAt_26 ?_
      refine z_iload_n F hl dX1_bestAt_29 rfl ?_
      refine mo_l3 F h x.toNat dX1_bestAt_30 ?_
      refine ret _ _ _ _ _ _ dX1_bestAt_31 h ⟨pa2, rd', ?_, rfl⟩
      rw [mbaR, if_neg (by omega), hP x.toNat (by omega)]
    · have c14 := bz_d0 c14
      refine z_iconst F dX1_bestAt_17 ?_
      refine ret _ _ _ _ _ _ dX1_bestAt_18 h ⟨pa', rd', ?_, rfl⟩
      rw [mbaR, if_pos (Or.inr c14)]
set_option maxHeartbeats 4000000 in
set_option maxRecDepth 100000 in
theorem mX1_through (l : Launch) (D : va_G) (ad : Nat → Nat) (ca : Nat → ClassId) (n : Nat) (wt : Nat → Int) (k : Nat) (lb : Nat → Nat) (pa : Nat → Nat) (rd : Nat → Nat) (x y : Int) (hx : -2147483648 ≤ x ∧ x < 2147483648) (hy : -2147483648 ≤ y ∧ y < 2147483648) (hn : n ≤ 6) (hk : k ≤ 4) (hb : ∀ j, lb j ≤ 3) : Ci l D (mt ca) yX1_through cX1_through 6 (some .int) 2 47 [.ref (ad 0), .int (zI x), .int (zI y)] (mw ad ca n wt k lb pa rd) (fun r w => ∃ (pa' : Nat → Nat), ∃ (rd' : Nat → Nat), r = zI (mthR wt lb k n x y) ∧ w = mw ad ca n wt k lb pa' rd') := by
  refine Ci.of (by decide) (Nat.le_of_ble_eq_true rfl) (by simp [Value.category]) ?_
  intro p e R s m args below meth c A Q ls hRf hRl F h hl ret
  have F : fx p m meth c s args cX1_through 6 RX1 A := F
  have h4 := p4 hn
  refine z_aload_n F hl dX1_through_0 rfl ?_
  refine z_iload_n F hl dX1_through_1 rfl ?_
  refine rX1_is F h hl x dX1_through_2 (fun H locs h => ?_)
  refine z_if_eq F 16 dX1_through_5 (fun c5 => ?_) (fun c5 => ?_) (bz_in _)
  · have c5 := bz_d0 c5
    refine z_iconst F dX1_through_16 ?_
    refine ret _ _ _ _ _ _ dX1_through_17 h ⟨pa, rd, ?_, rfl⟩
    rw [mthR, if_neg (fun q => c5 q.1)]
  · have c5 := bz_d1 c5
    refine z_aload_n F hl dX1_through_8 rfl ?_
    refine z_iload_n F hl dX1_through_9 rfl ?_
    refine rX1_mark F h hl y dX1_through_10 (fun H locs h => ?_)
    refine z_if_ne F 18 dX1_through_13 (fun c13 => ?_) (fun c13 => ?_) (bz_in _)
    · have c13 := bz_d1 c13
      refine z_iconst F dX1_through_18 ?_
      refine z_istore_n F hl dX1_through_19 (fun ls hl => ?_)
      refine z_iconst F dX1_through_20 ?_
      refine z_istore F hl dX1_through_21 (fun ls hl => ?_)
      have L : ∀ (d q : Nat) (z : Int) (pa rd : Nat → Nat) (H : Heap) (locs : List Loc) (ls : Array Slot), q + d = 4 ^ n → z = sm (fun c => if ((dg n c x.toNat : Nat) : Int) = y ∧ fitc lb k n c 0 = true then pw wt n c else 0) q → wh D (mw ad ca n wt k lb pa rd) (mt ca) A s H locs → lz ls 6 [some (.ref (ad 0)), some (.int (zI x)), some (.int (zI y)), some (.int (zI z)), some (.int (zI q)), none] → W p l e R s m args below meth c H locs 0 0 Q (F0 m 23 ls []) := by
        intro d
        induction d with
        | zero =>
          intro q z pa rd H locs ls hq hz h hl
          refine z_iload F hl dX1_through_23 rfl ?_
          refine z_aload_n F hl dX1_through_25 rfl ?_
          refine rX1_all F h hl dX1_through_26 (fun H locs h => ?_)
          rw [← hq]
          refine z_icmp_ge F 73 dX1_through_29 (fun c29 => ?_) (fun c29 => ?_)
          · refine z_iload_n F hl dX1_through_73 rfl ?_
            refine ret _ _ _ _ _ _ dX1_through_74 h ⟨pa, rd, ?_, rfl⟩
            rw [hz, mthR, if_pos ⟨c5, c13⟩, show q = 4 ^ n by omega]
          · exact absurd c29 (by omega)
        | succ d ih =>
          intro q z pa rd H locs ls hq hz h hl
          refine z_iload F hl dX1_through_23 rfl ?_
          refine z_aload_n F hl dX1_through_25 rfl ?_
          refine rX1_all F h hl dX1_through_26 (fun H locs h => ?_)
          rw [← hq]
          refine z_icmp_ge F 73 dX1_through_29 (fun c29 => ?_) (fun c29 => ?_)
          · exact absurd c29 (by omega)
          · refine z_aload_n F hl dX1_through_32 rfl ?_
            refine z_iload F hl dX1_through_33 rfl ?_
            refine rX1_spell F h hl q dX1_through_35 (fun pa' H locs hP h => ?_)
            refine z_istore F hl dX1_through_38 (fun ls hl => ?_)
            have hdx := dg_lt n q x.toNat
            have J : ∀ (b : Int) (rd : Nat → Nat) (H : Heap) (locs : List Loc), wh D (mw ad ca n wt k lb pa' rd) (mt ca) A s H locs → b = z + (if ((dg n q x.toNat : Nat) : Int) = y ∧ fitc lb k n q 0 = true then pw wt n q else 0) → W p l e R s m args below meth c H locs 0 0 Q (F0 m 66 ls [.int (zI b)]) := by
              intro b rd H locs h hb2
              refine z_istore_n F hl dX1_through_66 (fun ls hl => ?_)
              refine z_iinc F hl ((q + 1 : Nat) : Int) dX1_through_67 rfl (fun ls hl => ?_)
              refine z_goto F 23 dX1_through_70 ?_
              refine ih (q + 1) b pa' rd H locs ls (by omega) ?_ h (hl.keep [true, true, true, true, true, false])
              rw [hb2, hz]; rfl
            refine z_aload_n F hl dX1_through_40 rfl ?_
            refine mo_g4 F h dX1_through_41 ?_
            refine z_iload_n F hl dX1_through_44 rfl ?_
            refine mo_l3 F h x.toNat dX1_through_45 ?_
            rw [hP x.toNat (by omega)]
            refine z_iload_n F hl dX1_through_46 rfl ?_
            refine z_icmp_ne F 65 dX1_through_47 (fun c47 => ?_) (fun c47 => ?_)
            · refine z_iload_n F hl dX1_through_65 rfl ?_
              exact J _ _ _ _ h (by rw [if_neg (fun q => c47 q.1), Int.add_zero])
            · refine z_aload_n F hl dX1_through_50 rfl ?_
              refine z_iconst F dX1_through_51 ?_
              refine rX1_fits F h hl 0 dX1_through_52 (fun rd' H locs h => ?_) (hq := fun t ht => by rw [hP t ht]; have := dg_lt n q t; omega)
              rw [fitc_of hP]
              refine z_if_eq F 65 dX1_through_55 (fun c55 => ?_) (fun c55 => ?_) (bz_in _)
              · have c55 := bz_e0 c55
                refine z_iload_n F hl dX1_through_65 rfl ?_
                exact J _ _ _ _ h (by rw [if_neg (fun q => by rw [c55] at q; exact absurd q.2 (by decide)), Int.add_zero])
              · have c55 := bz_n0 c55
                refine z_iload_n F hl dX1_through_58 rfl ?_
                refine z_iload F hl dX1_through_59 rfl ?_
                refine z_iadd F dX1_through_61 ?_
                refine z_goto F 66 dX1_through_62 ?_
                exact J _ _ _ _ h (by rw [if_pos ⟨c47, c55⟩])
      exact L (4 ^ n) 0 0 pa rd H locs ls (by omega) rfl h (hl.keep [true, true, true, true, true, false])
    · have c13 := bz_d0 c13
      refine z_iconst F dX1_through_16 ?_
      refine ret _ _ _ _ _ _ dX1_through_17 h ⟨pa, rd, ?_, rfl⟩
      rw [mthR, if_neg (fun q => c13 q.2)]
end
section
/-! THE MODEL: bestNext -/
set_option maxHeartbeats 4000000 in
set_option maxRecDepth 100000 in
theorem mX1_bestNext (l : Launch) (D : va_G) (ad : Nat → Nat) (ca : Nat → ClassId) (n : Nat) (wt : Nat → Int) (k : Nat) (lb : Nat → Nat) (pa : Nat → Nat) (rd : Nat → Nat)  (hn : n ≤ 6) (hk : k ≤ 4) (hb : ∀ j, lb j ≤ 3) : Ci l D (mt ca) yX1_bestNext cX1_bestNext 5 (some .int) 3 70 [.ref (ad 0)] (mw ad ca n wt k lb pa rd) (fun r w => ∃ (pa' : Nat → Nat), ∃ (rd' : Nat → Nat), r = zI (mbnR wt lb k n) ∧ w = mw ad ca n wt k (bnL k lb) pa' rd') := by
  refine Ci.of (by decide) (Nat.le_of_ble_eq_true rfl) (by simp [Value.category]) ?_
  intro p e R s m args below meth c A Q ls hRf hRl F h hl ret
  have F : fx p m meth c s args cX1_bestNext 5 RX1 A := F
  refine z_iconst F dX1_bestNext_0 ?_
  refine z_istore_n F hl dX1_bestNext_1 (fun ls hl => ?_)
  refine z_iconst F dX1_bestNext_2 ?_
  refine z_istore_n F hl dX1_bestNext_3 (fun ls hl => ?_)
  refine z_iconst F dX1_bestNext_4 ?_
  refine z_istore_n F hl dX1_bestNext_5 (fun ls hl => ?_)
  by_cases hk4 : k < 4
  · have L : ∀ (d i : Nat) (lb1 pa rd : Nat → Nat) (b y : Int) (H : Heap) (locs : List Loc) (ls : Array Slot), i + d = 4 → 1 ≤ i → (∀ j, lb1 j ≤ 3) → (∀ z, up1 lb1 k z = up1 lb k z) → (i = 4 → lb1 = up1 lb k 3) → (b, y) = bnS (fun q => mtot wt (up1 lb k q) (k + 1) n) (i - 1) → wh D (mw ad ca n wt k lb1 pa rd) (mt ca) A s H locs → lz ls 5 [some (.ref (ad 0)), some (.int (zI b)), some (.int (zI y)), some (.int (zI i)), none] → W p l e R s m args below meth c H locs 0 0 Q (F0 m 6 ls []) := by
      intro d
      induction d with
      | zero =>
        intro i lb1 pa rd b y H locs ls hi h1 hb1 hu h4 hS h hl
        refine z_iload_n F hl dX1_bestNext_6 rfl ?_
        refine z_iconst F dX1_bestNext_7 ?_
        refine z_icmp_ge F 67 dX1_bestNext_8 (fun c8 => ?_) (fun c8 => ?_)
        · refine z_iload_n F hl dX1_bestNext_67 rfl ?_
          refine ret _ _ _ _ _ _ dX1_bestNext_68 h ⟨pa, rd, ?_, ?_⟩
          · rw [mbnR, if_pos hk4, show 3 = i - 1 by omega, ← hS]
          · rw [bnL, if_pos hk4, h4 (by omega)]
        · exact absurd c8 (by omega)
      | succ d ih =>
        intro i lb1 pa rd b y H locs ls hi h1 hb1 hu h4 hS h hl
        refine z_iload_n F hl dX1_bestNext_6 rfl ?_
        refine z_iconst F dX1_bestNext_7 ?_
        refine z_icmp_ge F 67 dX1_bestNext_8 (fun c8 => ?_) (fun c8 => ?_)
        · exact absurd c8 (by omega)
        · refine z_aload_n F hl dX1_bestNext_11 rfl ?_
          refine mo_g2 F h dX1_bestNext_12 ?_
          refine z_iconst F dX1_bestNext_15 ?_
          refine z_icmp_ge F 67 dX1_bestNext_16 (fun c16 => ?_) (fun c16 => ?_)
          · exact absurd c16 (by omega)
          · refine z_aload_n F hl dX1_bestNext_19 rfl ?_
            refine z_iload_n F hl dX1_bestNext_20 rfl ?_
            refine rX1_write F h hl (i : Int) dX1_bestNext_21 (fun H locs h => ?_)
            rw [wr_1 hk4 (by omega), wr_2 lb1 hk4 (by omega), hu] at h
            refine z_pop F dX1_bestNext_24 ?_
            refine z_aload_n F hl dX1_bestNext_25 rfl ?_
            have hb2 := up1_le (k := k) (x := i) hb (by omega)
            refine rX1_total F h hl dX1_bestNext_26 (fun pa' rd' H locs h => ?_)
            refine z_istore F hl dX1_bestNext_29 (fun ls hl => ?_)
            refine z_aload_n F hl dX1_bestNext_31 rfl ?_
            refine rX1_rub F h hl dX1_bestNext_32 (fun H locs h => ?_)
            rw [show k + 1 - 1 = k by omega] at h
            refine z_pop F dX1_bestNext_35 ?_
            have hS2 : bnS (fun q => mtot wt (up1 lb k q) (k + 1) n) (i + 1 - 1) = if zI y < zI (mtot wt (up1 lb k i) (k + 1) n) then ((i : Int), mtot wt (up1 lb k i) (k + 1) n) else (b, y) := by
              obtain ⟨i', rfl⟩ : ∃ i', i = i' + 1 := ⟨i - 1, by omega⟩
              rw [show i' + 1 - 1 = i' by omega] at hS
              rw [show i' + 1 + 1 - 1 = i' + 1 by omega, bnS, ← hS]
            have hu2 : ∀ z, up1 (up1 lb k i) k z = up1 lb k z := fun z => up1_up1 lb k i z
            refine z_join 47 (if zI y < zI (mtot wt (up1 lb k i) (k + 1) n) then (i : Int) else b) (fun J => ?_) ?_
            · refine z_iload F hl dX1_bestNext_36 rfl ?_
              refine z_iload_n F hl dX1_bestNext_38 rfl ?_
              refine lv_icmp_le (tgt := 46) F.1 F.2.1 dX1_bestNext_39 (by decide) (fun c39 => ?_) (fun c39 => ?_)
              · refine z_iload_n F hl dX1_bestNext_46 rfl ?_
                exact J _ (by rw [if_neg (i32_le c39)])
              · refine z_iload_n F hl dX1_bestNext_42 rfl ?_
                refine z_goto F 47 dX1_bestNext_43 ?_
                exact J _ (by rw [if_pos (i32_nle c39)])
            · refine z_istore_n F hl dX1_bestNext_47 (fun ls hl => ?_)
              refine z_join 60 (if zI y < zI (mtot wt (up1 lb k i) (k + 1) n) then mtot wt (up1 lb k i) (k + 1) n else y) (fun J => ?_) ?_
              · refine z_iload F hl dX1_bestNext_48 rfl ?_
                refine z_iload_n F hl dX1_bestNext_50 rfl ?_
                refine lv_icmp_le (tgt := 59) F.1 F.2.1 dX1_bestNext_51 (by decide) (fun c51 => ?_) (fun c51 => ?_)
                · refine z_iload_n F hl dX1_bestNext_59 rfl ?_
                  exact J _ (by rw [if_neg (i32_le c51)])
                · refine z_iload F hl dX1_bestNext_54 rfl ?_
                  refine z_goto F 60 dX1_bestNext_56 ?_
                  exact J _ (by rw [if_pos (i32_nle c51)])
              · refine z_istore_n F hl dX1_bestNext_60 (fun ls hl => ?_)
                refine z_iinc F hl ((i + 1 : Nat) : Int) dX1_bestNext_61 rfl (fun ls hl => ?_)
                refine z_goto F 6 dX1_bestNext_64 ?_
                refine ih (i + 1) (up1 lb k i) pa' rd' _ _ H locs ls (by omega) (by omega) hb2 hu2 (fun q => by rw [show i = 3 by omega]) ?_ h (hl.keep [true, true, true, true, false])
                rw [hS2]
                split <;> rfl
    exact L 3 1 lb pa rd 0 0 _ _ ls (by omega) (by omega) hb (fun z => rfl) (fun q => absurd q (by omega)) rfl h (hl.keep [true, true, true, true, false])
  · refine z_iload_n F hl dX1_bestNext_6 rfl ?_
    refine z_iconst F dX1_bestNext_7 ?_
    refine z_icmp_ge F 67 dX1_bestNext_8 (fun c8 => ?_) (fun c8 => ?_)
    · exact absurd c8 (by omega)
    · refine z_aload_n F hl dX1_bestNext_11 rfl ?_
      refine mo_g2 F h dX1_bestNext_12 ?_
      refine z_iconst F dX1_bestNext_15 ?_
      refine z_icmp_ge F 67 dX1_bestNext_16 (fun c16 => ?_) (fun c16 => ?_)
      · refine z_iload_n F hl dX1_bestNext_67 rfl ?_
        refine ret _ _ _ _ _ _ dX1_bestNext_68 h ⟨pa, rd, ?_, ?_⟩
        · rw [mbnR, if_neg hk4]
        · rw [bnL, if_neg hk4]
      · exact absurd c16 (by omega)
end
section
/-! THE CONSTRUCTORS -/
/-- what the constructor of X0 leaves -/
def bX0_init (D : va_G) (h0 sz : Nat) (u : va_W × List (ClassId × FieldType)) (t : State) : Prop := va_P D vwCl u.1 t.heap ∧ va_K D vwCl u.2 t ∧ va_D (va_A [(h0, .inr (0, [.int (zI 0), .null, .int (zI 0), .null, .int (zI 0), .null, .null, .null]))] sz) u.1
set_option maxHeartbeats 4000000 in
set_option maxRecDepth 100000 in
theorem mX0_init (l : Launch) (D : va_G) (h0 sz : Nat) : Met l yX0_init (ws_ yX0_init cX0_init 1 none) { frames := 1, cells := 5, slots := 190, locals := 12 } (va_Pc [.ref h0] (cPc D [] [(h0, .inr (0, [.int (zI 0), .null, .int (zI 0), .null, .int (zI 0), .null, .null, .null]))] sz)) (va_Qv (fun u : va_W × List (ClassId × FieldType) => ∃ (ad : Nat → Nat) (ca : Nat → ClassId), ad 0 = h0 ∧ u = (dw ad ca 0 (fun _ => 0) 0 (fun _ => 0) 0 (fun _ => 0) (fun _ => 0) (fun _ => 0), dt ca)) (bX0_init D h0 sz) (va_A [(h0, .inr (0, [.int (zI 0), .null, .int (zI 0), .null, .int (zI 0), .null, .null, .null]))] sz)) 5 190 (va_A [(h0, .inr (0, [.int (zI 0), .null, .int (zI 0), .null, .int (zI 0), .null, .null, .null]))] sz) := by
  refine Met.ofW (cc := cX0_init) (maxL := 1) (ret := none) (by decide) rfl ?_
  intro p e s m args below meth c s₁ B hml hv
  obtain ⟨rfl, hsz, hP, hK, hD0⟩ := hv
  have hx := B.exec
  have hb := B.bytes
  have hr := B.returns
  have hts := atoms_spec (ws := ws_ yX0_init cX0_init 1 none) B.pre
  have hts : ∀ w ∈ lw_all, w.before _ s = true := fun w h => hts w (List.mem_cons_of_mem _ h)
  have hown : s.vm.findClass RX0 = some m.cls := findClass_of_methodNamed B.named
  have hlocks := B.notSynchronized
  have hin : meth.name = "<init>" := (name_of_methodNamed B.named B.method).1
  subst hsz
  have hD := hD0.self (sz := s.heap.size)
  generalize hAe : va_A [(h0, .inr (0, [.int (zI 0), .null, .int (zI 0), .null, .int (zI 0), .null, .null, .null]))] s.heap.size = A at hD ⊢
  have hA : ∀ q : Nat, s.heap.size ≤ q → A q := fun q h => by rw [← hAe]; exact Or.inr h
  have hS : va_S A s.heap s.heap [] := va_S.rf
  have hP : va_P D vwCl [(h0, .inr (0, [.int (zI 0), .null, .int (zI 0), .null, .int (zI 0), .null, .null, .null]))] s.heap := hP
  have hl := lv_entry ([.ref h0]) (n := 1) (Nat.le_of_ble_eq_true rfl)
  rw [lg_entry_eq]
  generalize (lg_sl ([.ref h0]) ++ List.replicate (1 - (lg_sl ([.ref h0])).length) Slot.unset).toArray = ls at hl ⊢
  have hl : lv_has ls 1 [(0, .ref h0)] := hl
  refine lv_aload_n hx hb dX0_init_0 rfl (lv_at hl 0 rfl) ?_
  refine W.objInit hx hb hown (hts _ q26) (hts _ q27) (hts _ q28) rfl (by rw [hml]; exact hl.1) rfl dX0_init_1 (Nat.le_of_ble_eq_true rfl) (Nat.le_of_ble_eq_true rfl) ?_
  refine W.eq (g2 := F0 m 4 ls []) rfl ?_
  refine lv_aload_n hx hb dX0_init_4 rfl (lv_at hl 0 rfl) ?_
  refine lv_bipush (v := 24) hx hb dX0_init_5 (by decide) ?_
  refine va_newa (atype := .byte) (a0 := (24, .inl (fun _ => zI 0))) (ty := .byte) (N' := 24) hx hb (hts _ q54) rfl hK hP hD hS hA (fun _ => rfl) (by decide) (by decide) (by decide) (Nat.le_of_ble_eq_true rfl) (Nat.le_of_ble_eq_true rfl) dX0_init_7 (fun q1 k1 H hK hP hD hS => ?_)
  have hP : va_P D vwCl [(h0, .inr (0, [.int (zI 0), .null, .int (zI 0), .null, .int (zI 0), .null, .null, .null])), (q1, .inl (k1, 24, .inl (fun _ => zI 0)))] H := hP
  have hD : va_D A [(h0, .inr (0, [.int (zI 0), .null, .int (zI 0), .null, .int (zI 0), .null, .null, .null])), (q1, .inl (k1, 24, .inl (fun _ => zI 0)))] := hD
  have hK : va_K D vwCl [(k1, .byte)] s := hK
  refine va_putF (D := D) (ci := 0) (v := .ref q1) (ty := .array .byte) (C := RX0) (T := TX0) (N := 8) hx hb hts in_X0 tyX0 tyX0_ok nmX0 hown hK hP hD hS 0 rfl rfl 1 (by decide) (hts _ q30) (fun _ h9 => h9) rfl hin rfl (by decide +kernel) rfl rfl (Nat.le_of_ble_eq_true rfl) dX0_init_9 (fun H locs hP hD hS => ?_)
  have hP : va_P D vwCl [(h0, .inr (0, [.int (zI 0), .ref q1, .int (zI 0), .null, .int (zI 0), .null, .null, .null])), (q1, .inl (k1, 24, .inl (fun _ => zI 0)))] H := hP
  have hD : va_D A [(h0, .inr (0, [.int (zI 0), .ref q1, .int (zI 0), .null, .int (zI 0), .null, .null, .null])), (q1, .inl (k1, 24, .inl (fun _ => zI 0)))] := hD
  refine lv_aload_n hx hb dX0_init_12 rfl (lv_at hl 0 rfl) ?_
  refine lv_iconst (v := 4) hx hb dX0_init_13 (by decide) ?_
  refine va_newa (atype := .byte) (a0 := (4, .inl (fun _ => zI 0))) (ty := .byte) (N' := 4) hx hb (hts _ q54) rfl hK hP hD hS hA (fun _ => rfl) (by decide) (by decide) (by decide) (Nat.le_of_ble_eq_true rfl) (Nat.le_of_ble_eq_true rfl) dX0_init_14 (fun q2 k2 H hK hP hD hS => ?_)
  have hP : va_P D vwCl [(h0, .inr (0, [.int (zI 0), .ref q1, .int (zI 0), .null, .int (zI 0), .null, .null, .null])), (q1, .inl (k1, 24, .inl (fun _ => zI 0))), (q2, .inl (k2, 4, .inl (fun _ => zI 0)))] H := hP
  have hD : va_D A [(h0, .inr (0, [.int (zI 0), .ref q1, .int (zI 0), .null, .int (zI 0), .null, .null, .null])), (q1, .inl (k1, 24, .inl (fun _ => zI 0))), (q2, .inl (k2, 4, .inl (fun _ => zI 0)))] := hD
  have hK : va_K D vwCl [(k1, .byte), (k2, .byte)] s := hK
  refine va_putF (D := D) (ci := 0) (v := .ref q2) (ty := .array .byte) (C := RX0) (T := TX0) (N := 8) hx hb hts in_X0 tyX0 tyX0_ok nmX0 hown hK hP hD hS 0 rfl rfl 3 (by decide) (hts _ q32) (fun _ h9 => h9) rfl hin rfl (by decide +kernel) rfl rfl (Nat.le_of_ble_eq_true rfl) dX0_init_16 (fun H locs hP hD hS => ?_)
  have hP : va_P D vwCl [(h0, .inr (0, [.int (zI 0), .ref q1, .int (zI 0), .ref q2, .int (zI 0), .null, .null, .null])), (q1, .inl (k1, 24, .inl (fun _ => zI 0))), (q2, .inl (k2, 4, .inl (fun _ => zI 0)))] H := hP
  have hD : va_D A [(h0, .inr (0, [.int (zI 0), .ref q1, .int (zI 0), .ref q2, .int (zI 0), .null, .null, .null])), (q1, .inl (k1, 24, .inl (fun _ => zI 0))), (q2, .inl (k2, 4, .inl (fun _ => zI 0)))] := hD
  refine lv_aload_n hx hb dX0_init_19 rfl (lv_at hl 0 rfl) ?_
  refine lv_bipush (v := 54) hx hb dX0_init_20 (by decide) ?_
  refine va_newa (atype := .int) (a0 := (54, .inl (fun _ => zI 0))) (ty := .int) (N' := 54) hx hb (hts _ q55) rfl hK hP hD hS hA (fun _ => rfl) (by decide) (by decide) (by decide) (Nat.le_of_ble_eq_true rfl) (Nat.le_of_ble_eq_true rfl) dX0_init_22 (fun q3 k3 H hK hP hD hS => ?_)
  have hP : va_P D vwCl [(h0, .inr (0, [.int (zI 0), .ref q1, .int (zI 0), .ref q2, .int (zI 0), .null, .null, .null])), (q1, .inl (k1, 24, .inl (fun _ => zI 0))), (q2, .inl (k2, 4, .inl (fun _ => zI 0))), (q3, .inl (k3, 54, .inl (fun _ => zI 0)))] H := hP
  have hD : va_D A [(h0, .inr (0, [.int (zI 0), .ref q1, .int (zI 0), .ref q2, .int (zI 0), .null, .null, .null])), (q1, .inl (k1, 24, .inl (fun _ => zI 0))), (q2, .inl (k2, 4, .inl (fun _ => zI 0))), (q3, .inl (k3, 54, .inl (fun _ => zI 0)))] := hD
  have hK : va_K D vwCl [(k1, .byte), (k2, .byte), (k3, .int)] s := hK
  refine va_putF (D := D) (ci := 0) (v := .ref q3) (ty := .array .int) (C := RX0) (T := TX0) (N := 8) hx hb hts in_X0 tyX0 tyX0_ok nmX0 hown hK hP hD hS 0 rfl rfl 5 (by decide) (hts _ q34) (fun _ h9 => h9) rfl hin rfl (by decide +kernel) rfl rfl (Nat.le_of_ble_eq_true rfl) dX0_init_24 (fun H locs hP hD hS => ?_)
  have hP : va_P D vwCl [(h0, .inr (0, [.int (zI 0), .ref q1, .int (zI 0), .ref q2, .int (zI 0), .ref q3, .null, .null])), (q1, .inl (k1, 24, .inl (fun _ => zI 0))), (q2, .inl (k2, 4, .inl (fun _ => zI 0))), (q3, .inl (k3, 54, .inl (fun _ => zI 0)))] H := hP
  have hD : va_D A [(h0, .inr (0, [.int (zI 0), .ref q1, .int (zI 0), .ref q2, .int (zI 0), .ref q3, .null, .null])), (q1, .inl (k1, 24, .inl (fun _ => zI 0))), (q2, .inl (k2, 4, .inl (fun _ => zI 0))), (q3, .inl (k3, 54, .inl (fun _ => zI 0)))] := hD
  refine lv_aload_n hx hb dX0_init_27 rfl (lv_at hl 0 rfl) ?_
  refine lv_bipush (v := 54) hx hb dX0_init_28 (by decide) ?_
  refine va_newa (atype := .int) (a0 := (54, .inl (fun _ => zI 0))) (ty := .int) (N' := 54) hx hb (hts _ q55) rfl hK hP hD hS hA (fun _ => rfl) (by decide) (by decide) (by decide) (Nat.le_of_ble_eq_true rfl) (Nat.le_of_ble_eq_true rfl) dX0_init_30 (fun q4 k4 H hK hP hD hS => ?_)
  have hP : va_P D vwCl [(h0, .inr (0, [.int (zI 0), .ref q1, .int (zI 0), .ref q2, .int (zI 0), .ref q3, .null, .null])), (q1, .inl (k1, 24, .inl (fun _ => zI 0))), (q2, .inl (k2, 4, .inl (fun _ => zI 0))), (q3, .inl (k3, 54, .inl (fun _ => zI 0))), (q4, .inl (k4, 54, .inl (fun _ => zI 0)))] H := hP
  have hD : va_D A [(h0, .inr (0, [.int (zI 0), .ref q1, .int (zI 0), .ref q2, .int (zI 0), .ref q3, .null, .null])), (q1, .inl (k1, 24, .inl (fun _ => zI 0))), (q2, .inl (k2, 4, .inl (fun _ => zI 0))), (q3, .inl (k3, 54, .inl (fun _ => zI 0))), (q4, .inl (k4, 54, .inl (fun _ => zI 0)))] := hD
  have hK : va_K D vwCl [(k1, .byte), (k2, .byte), (k3, .int), (k4, .int)] s := hK
  refine va_putF (D := D) (ci := 0) (v := .ref q4) (ty := .array .int) (C := RX0) (T := TX0) (N := 8) hx hb hts in_X0 tyX0 tyX0_ok nmX0 hown hK hP hD hS 0 rfl rfl 6 (by decide) (hts _ q35) (fun _ h9 => h9) rfl hin rfl (by decide +kernel) rfl rfl (Nat.le_of_ble_eq_true rfl) dX0_init_32 (fun H locs hP hD hS => ?_)
  have hP : va_P D vwCl [(h0, .inr (0, [.int (zI 0), .ref q1, .int (zI 0), .ref q2, .int (zI 0), .ref q3, .ref q4, .null])), (q1, .inl (k1, 24, .inl (fun _ => zI 0))), (q2, .inl (k2, 4, .inl (fun _ => zI 0))), (q3, .inl (k3, 54, .inl (fun _ => zI 0))), (q4, .inl (k4, 54, .inl (fun _ => zI 0)))] H := hP
  have hD : va_D A [(h0, .inr (0, [.int (zI 0), .ref q1, .int (zI 0), .ref q2, .int (zI 0), .ref q3, .ref q4, .null])), (q1, .inl (k1, 24, .inl (fun _ => zI 0))), (q2, .inl (k2, 4, .inl (fun _ => zI 0))), (q3, .inl (k3, 54, .inl (fun _ => zI 0))), (q4, .inl (k4, 54, .inl (fun _ => zI 0)))] := hD
  refine lv_aload_n hx hb dX0_init_35 rfl (lv_at hl 0 rfl) ?_
  refine lv_bipush (v := 54) hx hb dX0_init_36 (by decide) ?_
  refine va_newa (atype := .int) (a0 := (54, .inl (fun _ => zI 0))) (ty := .int) (N' := 54) hx hb (hts _ q55) rfl hK hP hD hS hA (fun _ => rfl) (by decide) (by decide) (by decide) (Nat.le_of_ble_eq_true rfl) (Nat.le_of_ble_eq_true rfl) dX0_init_38 (fun q5 k5 H hK hP hD hS => ?_)
  have hP : va_P D vwCl [(h0, .inr (0, [.int (zI 0), .ref q1, .int (zI 0), .ref q2, .int (zI 0), .ref q3, .ref q4, .null])), (q1, .inl (k1, 24, .inl (fun _ => zI 0))), (q2, .inl (k2, 4, .inl (fun _ => zI 0))), (q3, .inl (k3, 54, .inl (fun _ => zI 0))), (q4, .inl (k4, 54, .inl (fun _ => zI 0))), (q5, .inl (k5, 54, .inl (fun _ => zI 0)))] H := hP
  have hD : va_D A [(h0, .inr (0, [.int (zI 0), .ref q1, .int (zI 0), .ref q2, .int (zI 0), .ref q3, .ref q4, .null])), (q1, .inl (k1, 24, .inl (fun _ => zI 0))), (q2, .inl (k2, 4, .inl (fun _ => zI 0))), (q3, .inl (k3, 54, .inl (fun _ => zI 0))), (q4, .inl (k4, 54, .inl (fun _ => zI 0))), (q5, .inl (k5, 54, .inl (fun _ => zI 0)))] := hD
  have hK : va_K D vwCl [(k1, .byte), (k2, .byte), (k3, .int), (k4, .int), (k5, .int)] s := hK
  refine va_putF (D := D) (ci := 0) (v := .ref q5) (ty := .array .int) (C := RX0) (T := TX0) (N := 8) hx hb hts in_X0 tyX0 tyX0_ok nmX0 hown hK hP hD hS 0 rfl rfl 7 (by decide) (hts _ q36) (fun _ h9 => h9) rfl hin rfl (by decide +kernel) rfl rfl (Nat.le_of_ble_eq_true rfl) dX0_init_40 (fun H locs hP hD hS => ?_)
  have hP : va_P D vwCl [(h0, .inr (0, [.int (zI 0), .ref q1, .int (zI 0), .ref q2, .int (zI 0), .ref q3, .ref q4, .ref q5])), (q1, .inl (k1, 24, .inl (fun _ => zI 0))), (q2, .inl (k2, 4, .inl (fun _ => zI 0))), (q3, .inl (k3, 54, .inl (fun _ => zI 0))), (q4, .inl (k4, 54, .inl (fun _ => zI 0))), (q5, .inl (k5, 54, .inl (fun _ => zI 0)))] H := hP
  have hD : va_D A [(h0, .inr (0, [.int (zI 0), .ref q1, .int (zI 0), .ref q2, .int (zI 0), .ref q3, .ref q4, .ref q5])), (q1, .inl (k1, 24, .inl (fun _ => zI 0))), (q2, .inl (k2, 4, .inl (fun _ => zI 0))), (q3, .inl (k3, 54, .inl (fun _ => zI 0))), (q4, .inl (k4, 54, .inl (fun _ => zI 0))), (q5, .inl (k5, 54, .inl (fun _ => zI 0)))] := hD
  refine W.widen (k := 5) (n := 190) (by decide) (by decide) ?_
  exact W.vret hx hb hr (fun t ht hW => ⟨⟨(dw (fun i => match i with | 0 => h0 | 1 => q1 | 2 => q2 | 3 => q3 | 4 => q4 | _ => q5) (fun i => match i with | 1 => k1 | 2 => k2 | 3 => k3 | 4 => k4 | _ => k5) 0 (fun _ => 0) 0 (fun _ => 0) 0 (fun _ => 0) (fun _ => 0) (fun _ => 0), dt (fun i => match i with | 1 => k1 | 2 => k2 | 3 => k3 | 4 => k4 | _ => k5)), rfl, ⟨_, _, rfl, rfl⟩, by rw [ht]; exact hP, va_K.moved hW.alike hK, by rw [hAe]; exact hD⟩, hS.F ht⟩) hS.2.2 dX0_init_43
/-- what the constructor of X1 leaves -/
def bX1_init (D : va_G) (h0 sz : Nat) (u : va_W × List (ClassId × FieldType)) (t : State) : Prop := va_P D vwCl u.1 t.heap ∧ va_K D vwCl u.2 t ∧ va_D (va_A [(h0, .inr (1, [.int (zI 0), .null, .int (zI 0), .null, .null, .null]))] sz) u.1
set_option maxHeartbeats 4000000 in
set_option maxRecDepth 100000 in
theorem mX1_init (l : Launch) (D : va_G) (h0 sz : Nat) : Met l yX1_init (ws_ yX1_init cX1_init 1 none) { frames := 1, cells := 4, slots := 40, locals := 12 } (va_Pc [.ref h0] (cPc D [] [(h0, .inr (1, [.int (zI 0), .null, .int (zI 0), .null, .null, .null]))] sz)) (va_Qv (fun u : va_W × List (ClassId × FieldType) => ∃ (ad : Nat → Nat) (ca : Nat → ClassId), ad 0 = h0 ∧ u = (mw ad ca 0 (fun _ => 0) 0 (fun _ => 0) (fun _ => 0) (fun _ => 0), mt ca)) (bX1_init D h0 sz) (va_A [(h0, .inr (1, [.int (zI 0), .null, .int (zI 0), .null, .null, .null]))] sz)) 4 40 (va_A [(h0, .inr (1, [.int (zI 0), .null, .int (zI 0), .null, .null, .null]))] sz) := by
  refine Met.ofW (cc := cX1_init) (maxL := 1) (ret := none) (by decide) rfl ?_
  intro p e s m args below meth c s₁ B hml hv
  obtain ⟨rfl, hsz, hP, hK, hD0⟩ := hv
  have hx := B.exec
  have hb := B.bytes
  have hr := B.returns
  have hts := atoms_spec (ws := ws_ yX1_init cX1_init 1 none) B.pre
  have hts : ∀ w ∈ lw_all, w.before _ s = true := fun w h => hts w (List.mem_cons_of_mem _ h)
  have hown : s.vm.findClass RX1 = some m.cls := findClass_of_methodNamed B.named
  have hlocks := B.notSynchronized
  have hin : meth.name = "<init>" := (name_of_methodNamed B.named B.method).1
  subst hsz
  have hD := hD0.self (sz := s.heap.size)
  generalize hAe : va_A [(h0, .inr (1, [.int (zI 0), .null, .int (zI 0), .null, .null, .null]))] s.heap.size = A at hD ⊢
  have hA : ∀ q : Nat, s.heap.size ≤ q → A q := fun q h => by rw [← hAe]; exact Or.inr h
  have hS : va_S A s.heap s.heap [] := va_S.rf
  have hP : va_P D vwCl [(h0, .inr (1, [.int (zI 0), .null, .int (zI 0), .null, .null, .null]))] s.heap := hP
  have hl := lv_entry ([.ref h0]) (n := 1) (Nat.le_of_ble_eq_true rfl)
  rw [lg_entry_eq]
  generalize (lg_sl ([.ref h0]) ++ List.replicate (1 - (lg_sl ([.ref h0])).length) Slot.unset).toArray = ls at hl ⊢
  have hl : lv_has ls 1 [(0, .ref h0)] := hl
  refine lv_aload_n hx hb dX1_init_0 rfl (lv_at hl 0 rfl) ?_
  refine W.objInit hx hb hown (hts _ q172) (hts _ q27) (hts _ q28) rfl (by rw [hml]; exact hl.1) rfl dX1_init_1 (Nat.le_of_ble_eq_true rfl) (Nat.le_of_ble_eq_true rfl) ?_
  refine W.eq (g2 := F0 m 4 ls []) rfl ?_
  refine lv_aload_n hx hb dX1_init_4 rfl (lv_at hl 0 rfl) ?_
  refine lv_bipush (v := 24) hx hb dX1_init_5 (by decide) ?_
  refine va_newa (atype := .int) (a0 := (24, .inl (fun _ => zI 0))) (ty := .int) (N' := 24) hx hb (hts _ q55) rfl hK hP hD hS hA (fun _ => rfl) (by decide) (by decide) (by decide) (Nat.le_of_ble_eq_true rfl) (Nat.le_of_ble_eq_true rfl) dX1_init_7 (fun q1 k1 H hK hP hD hS => ?_)
  have hP : va_P D vwCl [(h0, .inr (1, [.int (zI 0), .null, .int (zI 0), .null, .null, .null])), (q1, .inl (k1, 24, .inl (fun _ => zI 0)))] H := hP
  have hD : va_D A [(h0, .inr (1, [.int (zI 0), .null, .int (zI 0), .null, .null, .null])), (q1, .inl (k1, 24, .inl (fun _ => zI 0)))] := hD
  have hK : va_K D vwCl [(k1, .int)] s := hK
  refine va_put (D := D) (ci := 1) (v := .ref q1) (ty := .array .int) (C := RX1) (T := TX1) (N := 6) hx hb hts in_X1 tyX1 tyX1_ok nmX1 hown hK hP hD hS 0 rfl rfl 1 (by decide) (hts _ q174) (fun _ h9 => h9) rfl (by decide +kernel) rfl rfl (Nat.le_of_ble_eq_true rfl) dX1_init_9 (fun H locs hP hD hS => ?_)
  have hP : va_P D vwCl [(h0, .inr (1, [.int (zI 0), .ref q1, .int (zI 0), .null, .null, .null])), (q1, .inl (k1, 24, .inl (fun _ => zI 0)))] H := hP
  have hD : va_D A [(h0, .inr (1, [.int (zI 0), .ref q1, .int (zI 0), .null, .null, .null])), (q1, .inl (k1, 24, .inl (fun _ => zI 0)))] := hD
  refine lv_aload_n hx hb dX1_init_12 rfl (lv_at hl 0 rfl) ?_
  refine lv_iconst (v := 4) hx hb dX1_init_13 (by decide) ?_
  refine va_newa (atype := .int) (a0 := (4, .inl (fun _ => zI 0))) (ty := .int) (N' := 4) hx hb (hts _ q55) rfl hK hP hD hS hA (fun _ => rfl) (by decide) (by decide) (by decide) (Nat.le_of_ble_eq_true rfl) (Nat.le_of_ble_eq_true rfl) dX1_init_14 (fun q2 k2 H hK hP hD hS => ?_)
  have hP : va_P D vwCl [(h0, .inr (1, [.int (zI 0), .ref q1, .int (zI 0), .null, .null, .null])), (q1, .inl (k1, 24, .inl (fun _ => zI 0))), (q2, .inl (k2, 4, .inl (fun _ => zI 0)))] H := hP
  have hD : va_D A [(h0, .inr (1, [.int (zI 0), .ref q1, .int (zI 0), .null, .null, .null])), (q1, .inl (k1, 24, .inl (fun _ => zI 0))), (q2, .inl (k2, 4, .inl (fun _ => zI 0)))] := hD
  have hK : va_K D vwCl [(k1, .int), (k2, .int)] s := hK
  refine va_put (D := D) (ci := 1) (v := .ref q2) (ty := .array .int) (C := RX1) (T := TX1) (N := 6) hx hb hts in_X1 tyX1 tyX1_ok nmX1 hown hK hP hD hS 0 rfl rfl 3 (by decide) (hts _ q176) (fun _ h9 => h9) rfl (by decide +kernel) rfl rfl (Nat.le_of_ble_eq_true rfl) dX1_init_16 (fun H locs hP hD hS => ?_)
  have hP : va_P D vwCl [(h0, .inr (1, [.int (zI 0), .ref q1, .int (zI 0), .ref q2, .null, .null])), (q1, .inl (k1, 24, .inl (fun _ => zI 0))), (q2, .inl (k2, 4, .inl (fun _ => zI 0)))] H := hP
  have hD : va_D A [(h0, .inr (1, [.int (zI 0), .ref q1, .int (zI 0), .ref q2, .null, .null])), (q1, .inl (k1, 24, .inl (fun _ => zI 0))), (q2, .inl (k2, 4, .inl (fun _ => zI 0)))] := hD
  refine lv_aload_n hx hb dX1_init_19 rfl (lv_at hl 0 rfl) ?_
  refine lv_bipush (v := 6) hx hb dX1_init_20 (by decide) ?_
  refine va_newa (atype := .int) (a0 := (6, .inl (fun _ => zI 0))) (ty := .int) (N' := 6) hx hb (hts _ q55) rfl hK hP hD hS hA (fun _ => rfl) (by decide) (by decide) (by decide) (Nat.le_of_ble_eq_true rfl) (Nat.le_of_ble_eq_true rfl) dX1_init_22 (fun q3 k3 H hK hP hD hS => ?_)
  have hP : va_P D vwCl [(h0, .inr (1, [.int (zI 0), .ref q1, .int (zI 0), .ref q2, .null, .null])), (q1, .inl (k1, 24, .inl (fun _ => zI 0))), (q2, .inl (k2, 4, .inl (fun _ => zI 0))), (q3, .inl (k3, 6, .inl (fun _ => zI 0)))] H := hP
  have hD : va_D A [(h0, .inr (1, [.int (zI 0), .ref q1, .int (zI 0), .ref q2, .null, .null])), (q1, .inl (k1, 24, .inl (fun _ => zI 0))), (q2, .inl (k2, 4, .inl (fun _ => zI 0))), (q3, .inl (k3, 6, .inl (fun _ => zI 0)))] := hD
  have hK : va_K D vwCl [(k1, .int), (k2, .int), (k3, .int)] s := hK
  refine va_put (D := D) (ci := 1) (v := .ref q3) (ty := .array .int) (C := RX1) (T := TX1) (N := 6) hx hb hts in_X1 tyX1 tyX1_ok nmX1 hown hK hP hD hS 0 rfl rfl 4 (by decide) (hts _ q177) (fun _ h9 => h9) rfl (by decide +kernel) rfl rfl (Nat.le_of_ble_eq_true rfl) dX1_init_24 (fun H locs hP hD hS => ?_)
  have hP : va_P D vwCl [(h0, .inr (1, [.int (zI 0), .ref q1, .int (zI 0), .ref q2, .ref q3, .null])), (q1, .inl (k1, 24, .inl (fun _ => zI 0))), (q2, .inl (k2, 4, .inl (fun _ => zI 0))), (q3, .inl (k3, 6, .inl (fun _ => zI 0)))] H := hP
  have hD : va_D A [(h0, .inr (1, [.int (zI 0), .ref q1, .int (zI 0), .ref q2, .ref q3, .null])), (q1, .inl (k1, 24, .inl (fun _ => zI 0))), (q2, .inl (k2, 4, .inl (fun _ => zI 0))), (q3, .inl (k3, 6, .inl (fun _ => zI 0)))] := hD
  refine lv_aload_n hx hb dX1_init_27 rfl (lv_at hl 0 rfl) ?_
  refine lv_bipush (v := 6) hx hb dX1_init_28 (by decide) ?_
  refine va_newa (atype := .int) (a0 := (6, .inl (fun _ => zI 0))) (ty := .int) (N' := 6) hx hb (hts _ q55) rfl hK hP hD hS hA (fun _ => rfl) (by decide) (by decide) (by decide) (Nat.le_of_ble_eq_true rfl) (Nat.le_of_ble_eq_true rfl) dX1_init_30 (fun q4 k4 H hK hP hD hS => ?_)
  have hP : va_P D vwCl [(h0, .inr (1, [.int (zI 0), .ref q1, .int (zI 0), .ref q2, .ref q3, .null])), (q1, .inl (k1, 24, .inl (fun _ => zI 0))), (q2, .inl (k2, 4, .inl (fun _ => zI 0))), (q3, .inl (k3, 6, .inl (fun _ => zI 0))), (q4, .inl (k4, 6, .inl (fun _ => zI 0)))] H := hP
  have hD : va_D A [(h0, .inr (1, [.int (zI 0), .ref q1, .int (zI 0), .ref q2, .ref q3, .null])), (q1, .inl (k1, 24, .inl (fun _ => zI 0))), (q2, .inl (k2, 4, .inl (fun _ => zI 0))), (q3, .inl (k3, 6, .inl (fun _ => zI 0))), (q4, .inl (k4, 6, .inl (fun _ => zI 0)))] := hD
  have hK : va_K D vwCl [(k1, .int), (k2, .int), (k3, .int), (k4, .int)] s := hK
  refine va_put (D := D) (ci := 1) (v := .ref q4) (ty := .array .int) (C := RX1) (T := TX1) (N := 6) hx hb hts in_X1 tyX1 tyX1_ok nmX1 hown hK hP hD hS 0 rfl rfl 5 (by decide) (hts _ q178) (fun _ h9 => h9) rfl (by decide +kernel) rfl rfl (Nat.le_of_ble_eq_true rfl) dX1_init_32 (fun H locs hP hD hS => ?_)
  have hP : va_P D vwCl [(h0, .inr (1, [.int (zI 0), .ref q1, .int (zI 0), .ref q2, .ref q3, .ref q4])), (q1, .inl (k1, 24, .inl (fun _ => zI 0))), (q2, .inl (k2, 4, .inl (fun _ => zI 0))), (q3, .inl (k3, 6, .inl (fun _ => zI 0))), (q4, .inl (k4, 6, .inl (fun _ => zI 0)))] H := hP
  have hD : va_D A [(h0, .inr (1, [.int (zI 0), .ref q1, .int (zI 0), .ref q2, .ref q3, .ref q4])), (q1, .inl (k1, 24, .inl (fun _ => zI 0))), (q2, .inl (k2, 4, .inl (fun _ => zI 0))), (q3, .inl (k3, 6, .inl (fun _ => zI 0))), (q4, .inl (k4, 6, .inl (fun _ => zI 0)))] := hD
  refine W.widen (k := 4) (n := 40) (by decide) (by decide) ?_
  exact W.vret hx hb hr (fun t ht hW => ⟨⟨(mw (fun i => match i with | 0 => h0 | 1 => q1 | 2 => q2 | 3 => q3 | _ => q4) (fun i => match i with | 1 => k1 | 2 => k2 | 3 => k3 | _ => k4) 0 (fun _ => 0) 0 (fun _ => 0) (fun _ => 0) (fun _ => 0), mt (fun i => match i with | 1 => k1 | 2 => k2 | 3 => k3 | _ => k4)), rfl, ⟨_, _, rfl, rfl⟩, by rw [ht]; exact hP, va_K.moved hW.alike hK, by rw [hAe]; exact hD⟩, hS.F ht⟩) hS.2.2 dX1_init_35
end
section
/-! THE CLAIM OUT OF ONE WALK OF THE LAW'S BODY. Your part is whole_start (and what it stands on); all else here is the same for every law, but numbers. -/
def R_law : String := "AlignmentDeskLaw"
def lw_P (b : Addr) (xs : List Int32) (args : Array Value) (s : State) : Prop := args = #[.ref b] ∧ s.IntsAt b xs ∧ xs.length ≤ 256 ∧ (Jvm.Cond.and given_1 narrow_1).before args s = true
def lw_Q (_ : Array Value) (s : State) (o : Outcome) (t : State) : Prop := o = .returned (some (.int 1)) ∧ Framed s o t [] 600000 7290000
def lw_Z (below : List Frame) (a : Array Value) (s : State) : State → Prop := fun t => ∃ o, t.status = .running ∧ Ended t below o ∧ lw_Q a s o t
/-- the law's own end, with 1 on the stack, nothing written that was there before, its room as the claim has it -/
theorem lw_ret {p : Program} {l : Launch} {e : Env} {s : State} {m : MethodId} {below : List Frame} {meth : Method} {c : Code} {b : Nat} (hx : p.tables.exec = Jvm.exec) (hb : c.code = code) (hr : meth.sig.returnType = ret) (hlocks : meth.locks = false) {pc : Nat} {H : Heap} {ls : Array Slot} (hdg : decode code pc = .ok (.ireturn, 1)) : W p l e room_1 s m #[Value.ref b] below meth c H [] 600000 7290000 (lw_Z below #[Value.ref b] s) (F0 m pc ls [.int 1]) := by
  intro T hT X
  obtain ⟨fs, hret, hrun, hended, hW, hframe⟩ := X.leave (v := some (.int 1)) (hlocks := hlocks) (fun h => by rw [hr] at h; cases h)
  have hmeth' : T.vm.method? m = some meth := X.method'
  refine ⟨T.setFrames fs, ?_, .returned (some (.int 1)), hrun, hended, rfl, ⟨_, rfl⟩, hW, hframe⟩
  jvm_step X.here [X.here.top, hx, hb, hdg, hmeth', hr, ret, narrow_b1]
  (try refine ⟨rfl, ?_⟩); (try refine ⟨rfl, ?_⟩)
  first | (intro acts; rw [hret _ acts rfl rfl rfl]) | rw [hret _ _ rfl rfl rfl]
  exact Steps.refl _
/-- what holds at the law's entry: the machine, the code, the tables' words (any of lw_tbl by 'hts w (by decide +kernel)'), the script of L ints xs at the cell b, what the Statement gives of the start (any of its parts by flat_of_before) -/
def lw_At (p : Program) (s : State) (m : MethodId) (meth : Method) (c : Code) (b L : Nat) (xs : Nat → Int32) : Prop :=
  p.tables.exec = Jvm.exec ∧ c.code = code ∧ meth.sig.returnType = ret ∧ c.maxLocals = 4 ∧ s.vm.findClass R_law = some m.cls ∧ (∀ w ∈ lw_tbl, w.before #[Value.ref b] s = true) ∧ va_X b L xs s s.heap ∧ b < s.heap.size ∧ meth.locks = false ∧ (Jvm.Cond.and given_1 narrow_1).before #[Value.ref b] s = true
end
section
/-! THE PLAIN LAW, 1: sums, digits, the steps of a reading -/
def lbk (lb : Nat → Nat) (k : Nat) : Prop := (∀ j, lb j ≤ 3) ∧ ∀ j, j < k → 1 ≤ lb j
theorem sm_congr {f g : Nat → Int} : ∀ {n : Nat}, (∀ i, i < n → f i = g i) → sm f n = sm g n
  | 0, _ => rfl
  | n + 1, h => by
    show sm f n + f n = sm g n + g n
    rw [sm_congr (fun i hi => h i (by omega)), h n (by omega)]
theorem sm_plus (f g : Nat → Int) : ∀ n, sm (fun i => f i + g i) n = sm f n + sm g n
  | 0 => rfl
  | n + 1 => by
    show sm _ n + (f n + g n) = (sm f n + f n) + (sm g n + g n)
    rw [sm_plus f g n]; omega
theorem sm_mul (a : Int) (f : Nat → Int) : ∀ n, sm (fun i => a * f i) n = a * sm f n
  | 0 => by simp [sm]
  | n + 1 => by
    show sm _ n + a * f n = a * (sm f n + f n)
    rw [sm_mul a f n, Int.mul_add]
theorem sm_add (f : Nat → Int) (a : Nat) : ∀ b, sm f (a + b) = sm f a + sm (fun i => f (a + i)) b
  | 0 => by simp [sm]
  | b + 1 => by
    show sm f (a + b) + f (a + b) = sm f a + (sm _ b + f (a + b))
    rw [sm_add f a b]; omega
theorem sm_swap (a : Nat → Nat → Int) (N : Nat) : ∀ M, sm (fun s => sm (fun r => a r s) N) M = sm (fun r => sm (fun s => a r s) M) N
  | 0 => by
    show 0 = _
    exact (sm_0 (fun i _ => rfl)).symm
  | M + 1 => by
    show sm _ M + sm (fun r => a r M) N = _
    rw [sm_swap a N M, ← sm_plus]
    rfl
theorem sm_tail {f : Nat → Int} {b N : Nat} (hb : b ≤ N) (h : ∀ i, b ≤ i → i < N → f i = 0) : sm f N = sm f b := by
  obtain ⟨d, rfl⟩ : ∃ d, N = b + d := ⟨N - b, by omega⟩
  rw [sm_add, sm_0 (fun i hi => h (b + i) (by omega) (by omega)), Int.add_zero]
/-- the sum over all codes of d + 1 digits, by the first digit -/
theorem sm_4 (g : Nat → Int) (N : Nat) : sm g (4 * N) = sm (fun i => g (0 * N + i)) N + sm (fun i => g (1 * N + i)) N + sm (fun i => g (2 * N + i)) N + sm (fun i => g (3 * N + i)) N := by
  rw [show 4 * N = ((N + N) + N) + N by omega, sm_add, sm_add, sm_add]
  simp only [Nat.zero_mul, Nat.zero_add, Nat.one_mul, show 2 * N = N + N by omega, show 3 * N = N + N + N by omega]
theorem dig_hi {m c d : Nat} (hm : m < 4) (hc : c < 4 ^ d) : (m * 4 ^ d + c) / 4 ^ d % 4 = m := by
  have hp : 0 < 4 ^ d := Nat.pow_pos (by decide)
  rw [Nat.mul_comm, Nat.mul_add_div hp, Nat.div_eq_of_lt hc, Nat.add_zero, Nat.mod_eq_of_lt hm]
theorem dig_lo {m c d i : Nat} (hi : i < d) : (m * 4 ^ d + c) / 4 ^ i % 4 = c / 4 ^ i % 4 := by
  obtain ⟨j, rfl⟩ : ∃ j, d = i + 1 + j := ⟨d - (i + 1), by omega⟩
  have hp : 0 < 4 ^ i := Nat.pow_pos (by decide)
  have e1 : m * 4 ^ (i + 1 + j) = 4 ^ i * (4 * (m * 4 ^ j)) := by
    rw [Nat.pow_add, Nat.pow_succ]
    simp only [Nat.mul_assoc, Nat.mul_comm, Nat.mul_left_comm]
  rw [e1, Nat.mul_add_div hp, Nat.mul_add_mod]
/-- the weight of the last d frames of path c -/
def swt (w : Nat → Int) (n : Nat) : Nat → Nat → Int
  | 0, _ => 1
  | d + 1, c => w (4 * (n - 1 - d) + c / 4 ^ d % 4) * swt w n d c
theorem swt_congr {w : Nat → Int} {n c c' : Nat} : ∀ {d : Nat}, (∀ i, i < d → c / 4 ^ i % 4 = c' / 4 ^ i % 4) → swt w n d c = swt w n d c'
  | 0, _ => rfl
  | d + 1, h => by
    show w _ * swt w n d c = w _ * swt w n d c'
    rw [h d (by omega), swt_congr (fun i hi => h i (by omega))]
theorem swt_comp {w : Nat → Int} {n m c d : Nat} (hm : m < 4) (hc : c < 4 ^ d) : swt w n (d + 1) (m * 4 ^ d + c) = w (4 * (n - 1 - d) + m) * swt w n d c := by
  rw [swt, dig_hi hm hc, swt_congr (fun i hi => dig_lo hi)]
theorem pw_swt (w : Nat → Int) (n c : Nat) : ∀ d, d ≤ n → pw w n c = pdn (fun t => w (4 * t + dg n c t)) (n - d) * swt w n d c
  | 0, _ => by rw [swt, Int.mul_one]; rfl
  | d + 1, h => by
    rw [pw_swt w n c d (by omega), show n - d = (n - (d + 1)) + 1 by omega, pdn, swt, dg]
    rw [show n - 1 - (n - (d + 1)) = d by omega, show n - (d + 1) = n - 1 - d by omega, Int.mul_assoc]
theorem pw_all (w : Nat → Int) (n c : Nat) : pw w n c = swt w n n c := by
  rw [pw_swt w n c n (Nat.le_refl _), Nat.sub_self, pdn, Int.one_mul]
theorem swt_nn {w : Nat → Int} (hw : ∀ j, 0 ≤ w j ∧ w j ≤ 8) (n c : Nat) : ∀ d, 0 ≤ swt w n d c
  | 0 => by simp [swt]
  | d + 1 => Int.mul_nonneg (hw _).1 (swt_nn hw n c d)
/-- the place behind place s and mark m -/
def stp (lb : Nat → Nat) (k s m : Nat) : Option Nat := if m = mk lb s then some s else if m = 0 then some (s + 1) else if 2 * ((s + 1) / 2) + 1 ≤ 2 * k ∧ lb ((s + 1) / 2) = m then some (2 * ((s + 1) / 2) + 1) else none
theorem mk_even {lb : Nat → Nat} {s : Nat} (h : s % 2 = 0) : mk lb s = 0 := by rw [mk, if_pos h]
theorem mk_odd {lb : Nat → Nat} {s : Nat} (h : s % 2 = 1) : mk lb s = lb (s / 2) := by rw [mk, if_neg (by omega)]
theorem mk_pos {lb : Nat → Nat} {k s : Nat} (hb : lbk lb k) (h : s % 2 = 1) (hs : s ≤ 2 * k) : 1 ≤ mk lb s := by
  rw [mk_odd h]; exact hb.2 _ (by omega)
theorem ld_iff {lb : Nat → Nat} {f t : Nat} : ld lb f t = true ↔ (t = f ∨ t = f + 1 ∨ (t = f + 2 ∧ t % 2 = 1 ∧ mk lb t ≠ mk lb f)) := by
  unfold ld; exact decide_eq_true_iff
theorem ld_rng {lb : Nat → Nat} {f t : Nat} (h : ld lb f t = true) : f ≤ t ∧ t ≤ f + 2 := by
  rcases ld_iff.mp h with h | h | h <;> omega
theorem stp_to {lb : Nat → Nat} {k s r : Nat} (hb : lbk lb k) (hs : s ≤ 2 * k) (hr : r ≤ 2 * k) (h : ld lb s r = true) : stp lb k s (mk lb r) = some r := by
  unfold stp
  rcases ld_iff.mp h with rfl | rfl | ⟨rfl, h2, h3⟩
  · rw [if_pos rfl]
  · rcases Nat.mod_two_eq_zero_or_one s with he | ho
    · have h1 := mk_pos hb (show (s + 1) % 2 = 1 by omega) hr
      rw [if_neg (by rw [mk_even he]; omega), if_neg (by omega), if_pos ⟨by omega, by rw [mk_odd (by omega)]⟩]
      congr 1; omega
    · have h1 := mk_pos hb ho hs
      have h2 : mk lb (s + 1) = 0 := mk_even (by omega)
      rw [h2, if_neg (by omega), if_pos rfl]
  · have h1 := mk_pos hb h2 hr
    rw [if_neg h3, if_neg (by omega), if_pos ⟨by omega, by rw [mk_odd h2]; congr 1; omega⟩]
    congr 1; omega
theorem stp_of {lb : Nat → Nat} {k s r m : Nat} (hb : lbk lb k) (hs : s ≤ 2 * k) (h : stp lb k s m = some r) : ld lb s r = true ∧ r ≤ 2 * k ∧ mk lb r = m := by
  unfold stp at h
  by_cases h1 : m = mk lb s
  · rw [if_pos h1] at h
    obtain rfl : s = r := by simpa using h
    exact ⟨ld_iff.mpr (Or.inl rfl), hs, h1.symm⟩
  · rw [if_neg h1] at h
    by_cases h2 : m = 0
    · rw [if_pos h2] at h
      obtain rfl : s + 1 = r := by simpa using h
      have ho : s % 2 = 1 := by
        rcases Nat.mod_two_eq_zero_or_one s with he | ho
        · rw [mk_even he] at h1; omega
        · exact ho
      exact ⟨ld_iff.mpr (Or.inr (Or.inl rfl)), by omega, by rw [mk_even (by omega), h2]⟩
    · rw [if_neg h2] at h
      by_cases h3 : 2 * ((s + 1) / 2) + 1 ≤ 2 * k ∧ lb ((s + 1) / 2) = m
      · rw [if_pos h3] at h
        obtain rfl : 2 * ((s + 1) / 2) + 1 = r := by simpa using h
        have e1 : mk lb (2 * ((s + 1) / 2) + 1) = m := by rw [mk_odd (by omega), show (2 * ((s + 1) / 2) + 1) / 2 = (s + 1) / 2 by omega]; exact h3.2
        refine ⟨ld_iff.mpr ?_, h3.1, e1⟩
        rcases Nat.mod_two_eq_zero_or_one s with he | ho
        · exact Or.inr (Or.inl (by omega))
        · exact Or.inr (Or.inr ⟨by omega, by omega, by rw [e1]; exact h1⟩)
      · rw [if_neg h3] at h; cases h
/-- the four marks' terms are the three places' terms -/
def ot (o : Option Nat) (X : Nat → Int) : Int := match o with | some r => X r | none => 0
theorem step_sum {lb : Nat → Nat} {k s : Nat} (hb : lbk lb k) (hs : s ≤ 2 * k) (W X : Nat → Int) : W 0 * ot (stp lb k s 0) X + W 1 * ot (stp lb k s 1) X + W 2 * ot (stp lb k s 2) X + W 3 * ot (stp lb k s 3) X = b3 (fun r => if ld lb s r then W (mk lb r) * X r else 0) s k := by
  have l0 : ld lb s s = true := ld_iff.mpr (Or.inl rfl)
  have l1 : ld lb s (s + 1) = true := ld_iff.mpr (Or.inr (Or.inl rfl))
  unfold b3
  dsimp only
  rw [if_pos l0, if_pos l1]
  rcases Nat.mod_two_eq_zero_or_one s with he | ho
  · have l2 : ld lb s (s + 2) = false := by
      cases hc : ld lb s (s + 2) with
      | false => rfl
      | true => have := ld_iff.mp hc; omega
    have m0 : mk lb s = 0 := mk_even he
    have m1 : mk lb (s + 1) = lb ((s + 1) / 2) := mk_odd (by omega)
    have e1 : 2 * ((s + 1) / 2) + 1 = s + 1 := by omega
    rw [l2]
    by_cases hk : s + 1 ≤ 2 * k
    · have h3 := hb.1 ((s + 1) / 2)
      have h1 := hb.2 ((s + 1) / 2) (by omega)
      unfold stp
      rw [m0, m1, e1, if_pos hk]
      have hx : lb ((s + 1) / 2) = 1 ∨ lb ((s + 1) / 2) = 2 ∨ lb ((s + 1) / 2) = 3 := by omega
      rcases hx with hx | hx | hx <;> rw [hx] <;> simp [ot, hk]
    · unfold stp
      rw [m0, e1, if_neg hk]
      simp [ot, hk]
  · have hk1 : s + 1 ≤ 2 * k := by omega
    have m0 : mk lb s = lb (s / 2) := mk_odd ho
    have m1 : mk lb (s + 1) = 0 := mk_even (by omega)
    have m2 : mk lb (s + 2) = lb ((s + 1) / 2) := by rw [mk_odd (by omega), show (s + 2) / 2 = (s + 1) / 2 by omega]
    have e1 : 2 * ((s + 1) / 2) + 1 = s + 2 := by omega
    have a3 := hb.1 (s / 2)
    have a1 := hb.2 (s / 2) (by omega)
    have l2 : ld lb s (s + 2) = decide (lb ((s + 1) / 2) ≠ lb (s / 2)) := by
      cases hc : ld lb s (s + 2) with
      | true =>
        have := ld_iff.mp hc
        rw [m0, m2] at this
        exact (decide_eq_true (by omega)).symm
      | false =>
        refine (decide_eq_false (fun q => ?_)).symm
        have : ld lb s (s + 2) = true := ld_iff.mpr (Or.inr (Or.inr ⟨rfl, by omega, by rw [m0, m2]; exact q⟩))
        rw [hc] at this; cases this
    rw [if_pos hk1, l2, m0, m1, m2]
    unfold stp
    rw [m0, e1]
    generalize hA : lb (s / 2) = a at *
    have ha : a = 1 ∨ a = 2 ∨ a = 3 := by omega
    by_cases hk : s + 2 ≤ 2 * k
    · have b3' := hb.1 ((s + 1) / 2)
      have b1 := hb.2 ((s + 1) / 2) (by omega)
      generalize hB : lb ((s + 1) / 2) = b at *
      have hbb : b = 1 ∨ b = 2 ∨ b = 3 := by omega
      rcases ha with rfl | rfl | rfl <;> rcases hbb with rfl | rfl | rfl <;> simp [ot, hk] <;> omega
    · rcases ha with rfl | rfl | rfl <;> simp [ot, hk] <;> omega
end
section
/-! THE PLAIN LAW, 2: sums over the paths; what a path reads -/
/-- the last d frames of path c bring place s to an end -/
def acc (lb : Nat → Nat) (k : Nat) : Nat → Nat → Nat → Bool
  | 0, _, s => decide (2 * k ≤ s + 1)
  | d + 1, c, s => match stp lb k s (c / 4 ^ d % 4) with
    | some r => acc lb k d c r
    | none => false
/-- they bring it to the label's last mark, sometime -/
def acp (lb : Nat → Nat) (k : Nat) : Nat → Nat → Nat → Bool
  | 0, _, s => decide (2 * k ≤ s + 1)
  | d + 1, c, s => if 2 * k ≤ s + 1 then true else match stp lb k s (c / 4 ^ d % 4) with
    | some r => acp lb k d c r
    | none => false
theorem acc_congr {lb : Nat → Nat} {k c c' : Nat} : ∀ {d : Nat} (s : Nat), (∀ i, i < d → c / 4 ^ i % 4 = c' / 4 ^ i % 4) → acc lb k d c s = acc lb k d c' s
  | 0, _, _ => rfl
  | d + 1, s, h => by
    unfold acc
    rw [h d (by omega)]
    cases stp lb k s (c' / 4 ^ d % 4) with
    | none => rfl
    | some r => exact acc_congr r (fun i hi => h i (by omega))
theorem acp_congr {lb : Nat → Nat} {k c c' : Nat} : ∀ {d : Nat} (s : Nat), (∀ i, i < d → c / 4 ^ i % 4 = c' / 4 ^ i % 4) → acp lb k d c s = acp lb k d c' s
  | 0, _, _ => rfl
  | d + 1, s, h => by
    unfold acp
    rw [h d (by omega)]
    by_cases h1 : 2 * k ≤ s + 1
    · rw [if_pos h1, if_pos h1]
    · rw [if_neg h1, if_neg h1]
      cases stp lb k s (c' / 4 ^ d % 4) with
      | none => rfl
      | some r => exact acp_congr r (fun i hi => h i (by omega))
def Ga (w : Nat → Int) (lb : Nat → Nat) (k n d s : Nat) : Int := sm (fun c => if acc lb k d c s = true then swt w n d c else 0) (4 ^ d)
def Gp (w : Nat → Int) (lb : Nat → Nat) (k n d s : Nat) : Int := sm (fun c => if acp lb k d c s = true then swt w n d c else 0) (4 ^ d)
def Ge (w : Nat → Int) (n d : Nat) : Int := sm (fun c => swt w n d c) (4 ^ d)
theorem acc_comp {lb : Nat → Nat} {k d m c s : Nat} (hm : m < 4) (hc : c < 4 ^ d) : acc lb k (d + 1) (m * 4 ^ d + c) s = match stp lb k s m with | some r => acc lb k d c r | none => false := by
  rw [acc, dig_hi hm hc]
  cases stp lb k s m with
  | none => rfl
  | some r => exact acc_congr r (fun i hi => dig_lo hi)
theorem acp_comp {lb : Nat → Nat} {k d m c s : Nat} (hm : m < 4) (hc : c < 4 ^ d) (hs : ¬ 2 * k ≤ s + 1) : acp lb k (d + 1) (m * 4 ^ d + c) s = match stp lb k s m with | some r => acp lb k d c r | none => false := by
  rw [acp, if_neg hs, dig_hi hm hc]
  cases stp lb k s m with
  | none => rfl
  | some r => exact acp_congr r (fun i hi => dig_lo hi)
theorem ga_dig (w : Nat → Int) (lb : Nat → Nat) (k n d s m : Nat) (hm : m < 4) : sm (fun i => if acc lb k (d + 1) (m * 4 ^ d + i) s = true then swt w n (d + 1) (m * 4 ^ d + i) else 0) (4 ^ d) = w (4 * (n - 1 - d) + m) * ot (stp lb k s m) (fun r => Ga w lb k n d r) := by
  have e1 : ∀ i, i < 4 ^ d → (if acc lb k (d + 1) (m * 4 ^ d + i) s = true then swt w n (d + 1) (m * 4 ^ d + i) else 0) = w (4 * (n - 1 - d) + m) * ot (stp lb k s m) (fun r => if acc lb k d i r = true then swt w n d i else 0) := by
    intro i hi
    rw [acc_comp hm hi, swt_comp hm hi]
    cases stp lb k s m with
    | none => simp [ot]
    | some r =>
      show (if acc lb k d i r = true then _ else 0) = _ * (if acc lb k d i r = true then _ else 0)
      split
      · rfl
      · rw [Int.mul_zero]
  rw [sm_congr e1, sm_mul]
  cases stp lb k s m with
  | none => simp only [ot]; rw [sm_0 (fun _ _ => rfl)]
  | some r => rfl
theorem gp_dig (w : Nat → Int) (lb : Nat → Nat) (k n d s m : Nat) (hm : m < 4) (hs : ¬ 2 * k ≤ s + 1) : sm (fun i => if acp lb k (d + 1) (m * 4 ^ d + i) s = true then swt w n (d + 1) (m * 4 ^ d + i) else 0) (4 ^ d) = w (4 * (n - 1 - d) + m) * ot (stp lb k s m) (fun r => Gp w lb k n d r) := by
  have e1 : ∀ i, i < 4 ^ d → (if acp lb k (d + 1) (m * 4 ^ d + i) s = true then swt w n (d + 1) (m * 4 ^ d + i) else 0) = w (4 * (n - 1 - d) + m) * ot (stp lb k s m) (fun r => if acp lb k d i r = true then swt w n d i else 0) := by
    intro i hi
    rw [acp_comp hm hi hs, swt_comp hm hi]
    cases stp lb k s m with
    | none => simp [ot]
    | some r =>
      show (if acp lb k d i r = true then _ else 0) = _ * (if acp lb k d i r = true then _ else 0)
      split
      · rfl
      · rw [Int.mul_zero]
  rw [sm_congr e1, sm_mul]
  cases stp lb k s m with
  | none => simp only [ot]; rw [sm_0 (fun _ _ => rfl)]
  | some r => rfl
theorem p4s (d : Nat) : 4 ^ (d + 1) = 4 * 4 ^ d := by rw [Nat.pow_succ, Nat.mul_comm]
theorem b3_congr {f g : Nat → Int} {s k : Nat} (hs : s ≤ 2 * k) (h : ∀ r, r ≤ 2 * k → f r = g r) : b3 f s k = b3 g s k := by
  unfold b3
  rw [h s hs]
  by_cases h1 : s + 1 ≤ 2 * k
  · rw [if_pos h1, if_pos h1, h _ h1]
    by_cases h2 : s + 2 ≤ 2 * k
    · rw [if_pos h2, if_pos h2, h _ h2]
    · rw [if_neg h2, if_neg h2]
  · rw [if_neg h1, if_neg h1, if_neg (by omega), if_neg (by omega)]
theorem ga_step {lb : Nat → Nat} {k s : Nat} (hb : lbk lb k) (hs : s ≤ 2 * k) (w : Nat → Int) (n d : Nat) : Ga w lb k n (d + 1) s = b3 (fun r => if ld lb s r then w (4 * (n - 1 - d) + mk lb r) * Ga w lb k n d r else 0) s k := by
  rw [← step_sum hb hs (fun m => w (4 * (n - 1 - d) + m)) (fun r => Ga w lb k n d r), Ga, p4s, sm_4, ga_dig _ _ _ _ _ _ 0 (by decide), ga_dig _ _ _ _ _ _ 1 (by decide), ga_dig _ _ _ _ _ _ 2 (by decide), ga_dig _ _ _ _ _ _ 3 (by decide)]
theorem gp_step {lb : Nat → Nat} {k s : Nat} (hb : lbk lb k) (hs : s ≤ 2 * k) (h2 : ¬ 2 * k ≤ s + 1) (w : Nat → Int) (n d : Nat) : Gp w lb k n (d + 1) s = b3 (fun r => if ld lb s r then w (4 * (n - 1 - d) + mk lb r) * Gp w lb k n d r else 0) s k := by
  rw [← step_sum hb hs (fun m => w (4 * (n - 1 - d) + m)) (fun r => Gp w lb k n d r), Gp, p4s, sm_4, gp_dig _ _ _ _ _ _ 0 (by decide) h2, gp_dig _ _ _ _ _ _ 1 (by decide) h2, gp_dig _ _ _ _ _ _ 2 (by decide) h2, gp_dig _ _ _ _ _ _ 3 (by decide) h2]
/-- the desk's sums from a place on are sums over the paths from there -/
theorem ga_bk {lb : Nat → Nat} {k : Nat} (hb : lbk lb k) (w : Nat → Int) (n : Nat) : ∀ d s, s ≤ 2 * k → Ga w lb k n d s = Bk w lb k n d s
  | 0, s, hs => by
    show 0 + (if decide (2 * k ≤ s + 1) = true then (1 : Int) else 0) = if 2 * k ≤ s + 1 then 1 else 0
    simp
  | d + 1, s, hs => by
    rw [ga_step hb hs, Bk]
    refine b3_congr hs (fun r hr => ?_)
    rw [ga_bk hb w n d r hr]
theorem ge_step (w : Nat → Int) (n d : Nat) : Ge w n (d + 1) = fsm w (n - 1 - d) * Ge w n d := by
  have e1 : ∀ m, m < 4 → sm (fun i => swt w n (d + 1) (m * 4 ^ d + i)) (4 ^ d) = w (4 * (n - 1 - d) + m) * Ge w n d := by
    intro m hm
    rw [sm_congr (fun i hi => swt_comp hm hi), sm_mul]; rfl
  rw [Ge, p4s, sm_4, e1 0 (by decide), e1 1 (by decide), e1 2 (by decide), e1 3 (by decide), fsm, Int.add_mul, Int.add_mul, Int.add_mul, Nat.add_zero]
theorem ge_0 (w : Nat → Int) (n : Nat) : Ge w n 0 = 1 := by
  show 0 + 1 = (1 : Int)
  rfl
theorem ge_pdn (w : Nat → Int) (n : Nat) : ∀ d, d ≤ n → pdn (fsm w) n = pdn (fsm w) (n - d) * Ge w n d
  | 0, _ => by rw [ge_0, Int.mul_one]; rfl
  | d + 1, h => by
    rw [ge_pdn w n d (by omega), show n - d = (n - (d + 1)) + 1 by omega, pdn, ge_step, show n - 1 - d = n - (d + 1) by omega, Int.mul_assoc]
theorem e_ev (wt : Nat → Int) (n : Nat) : pdn (fsm wt) n = sm (fun c => pw wt n c) (4 ^ n) := by
  rw [ge_pdn wt n n (Nat.le_refl _), Nat.sub_self, pdn, Int.one_mul, Ge]
  exact sm_congr (fun i _ => (pw_all wt n i).symm)
/-- behind the label's end everything counts -/
theorem acp_end {lb : Nat → Nat} {k s : Nat} (h : 2 * k ≤ s + 1) : ∀ d c, acp lb k d c s = true
  | 0, _ => decide_eq_true h
  | d + 1, c => by rw [acp, if_pos h]
theorem gp_end {lb : Nat → Nat} {k s : Nat} (h : 2 * k ≤ s + 1) (w : Nat → Int) (n d : Nat) : Gp w lb k n d s = Ge w n d :=
  sm_congr (fun i _ => by rw [if_pos (acp_end h d i)])
theorem pdr_front (f : Nat → Int) (a : Nat) : ∀ d, pdr f a (d + 1) = f a * pdr f (a + 1) d
  | 0 => by simp [pdr]
  | d + 1 => by
    rw [pdr, pdr_front f a d, pdr, Int.mul_assoc, show a + (d + 1) = a + 1 + d by omega]
theorem ge_pdr (w : Nat → Int) (n : Nat) : ∀ d, d ≤ n → Ge w n d = pdr (fsm w) (n - d) d
  | 0, _ => by rw [ge_0]; rfl
  | d + 1, h => by
    rw [ge_step, ge_pdr w n d (by omega), pdr_front, show n - 1 - d = n - (d + 1) by omega, show n - (d + 1) + 1 = n - d by omega]
/-- sums of which but three neighbours count -/
theorem sm_s3 {g : Nat → Int} {s N : Nat} (hs : s < N) (h : ∀ r, ¬ (r ≤ s ∧ s ≤ r + 2) → g r = 0) : sm g N = s3 g s := by
  rw [sm_tail (b := s + 1) (by omega) (fun i h1 _ => h i (by omega))]
  match s with
  | 0 => simp [sm, s3]
  | 1 => simp [sm, s3]
  | s + 2 =>
    show sm g s + g s + g (s + 1) + g (s + 2) = _
    rw [sm_0 (fun i hi => h i (by omega)), s3, if_pos (by omega), if_pos (by omega), Int.zero_add]
    rfl
theorem sm_b3 {g : Nat → Int} {r k : Nat} (hr : r ≤ 2 * k) (h : ∀ s, ¬ (r ≤ s ∧ s ≤ r + 2) → g s = 0) : sm g (2 * k + 1) = b3 g r k := by
  have h0 : sm g r = 0 := sm_0 (fun i hi => h i (by omega))
  unfold b3
  by_cases h1 : r + 1 ≤ 2 * k
  · by_cases h2 : r + 2 ≤ 2 * k
    · rw [sm_tail (b := r + 3) (by omega) (fun i h1 _ => h i (by omega)), if_pos h1, if_pos h2]
      show sm g r + g r + g (r + 1) + g (r + 2) = _
      rw [h0, Int.zero_add]
    · rw [show 2 * k + 1 = r + 2 by omega, if_pos h1, if_neg h2]
      show sm g r + g r + g (r + 1) = _
      rw [h0, Int.zero_add, Int.add_zero]
  · rw [show 2 * k + 1 = r + 1 by omega, if_neg h1, if_neg (by omega)]
    show sm g r + g r = _
    rw [h0, Int.zero_add, Int.add_zero, Int.add_zero]
theorem s3_mul (f : Nat → Int) (s : Nat) (a : Int) : s3 f s * a = s3 (fun r => f r * a) s := by
  unfold s3
  rw [Int.add_mul, Int.add_mul]
  by_cases h2 : 2 ≤ s
  · rw [if_pos h2, if_pos h2, if_pos (by omega), if_pos (by omega)]
  · rw [if_neg h2, if_neg h2]
    by_cases h1 : 1 ≤ s
    · rw [if_pos h1, if_pos h1, Int.zero_mul]
    · rw [if_neg h1, if_neg h1, Int.zero_mul]
theorem mul_b3 (f : Nat → Int) (s k : Nat) (a : Int) : a * b3 f s k = b3 (fun r => a * f r) s k := by
  unfold b3
  rw [Int.mul_add, Int.mul_add]
  by_cases h2 : s + 2 ≤ 2 * k
  · rw [if_pos h2, if_pos h2, if_pos (by omega), if_pos (by omega)]
  · rw [if_neg h2, if_neg h2, Int.mul_zero]
    by_cases h1 : s + 1 ≤ 2 * k
    · rw [if_pos h1, if_pos h1]
    · rw [if_neg h1, if_neg h1, Int.mul_zero]
/-- sums up to a place, and from there on: always the same whole -/
theorem dual {lb : Nat → Nat} {k : Nat} (w : Nat → Int) (n : Nat) : ∀ t, t ≤ n → sm (fun s => Vf w lb t s * Bk w lb k n (n - t) s) (2 * k + 1) = Bk w lb k n n 0
  | 0, _ => by
    rw [sm_tail (b := 1) (by omega) (fun i h1 _ => by rw [Vf, if_neg (by omega), Int.zero_mul])]
    show 0 + Vf w lb 0 0 * Bk w lb k n (n - 0) 0 = _
    rw [Vf, if_pos rfl, Int.one_mul, Int.zero_add]; rfl
  | t + 1, h => by
    rw [← dual w n t (by omega)]
    obtain ⟨d, hd⟩ : ∃ d, n - t = d + 1 := ⟨n - t - 1, by omega⟩
    rw [hd, show n - (t + 1) = d by omega]
    have et : n - 1 - d = t := by omega
    have z : ∀ r s, ¬ (r ≤ s ∧ s ≤ r + 2) → ld lb r s = false := fun r s hq => by
      cases hc : ld lb r s with
      | false => rfl
      | true => exact absurd (ld_rng hc) hq
    rw [sm_congr (g := fun s => sm (fun r => if ld lb r s then Vf w lb t r * (w (4 * t + mk lb s) * Bk w lb k n d s) else 0) (2 * k + 1)) (fun s hs => ?_)]
    · rw [sm_swap]
      refine sm_congr (fun r hr => ?_)
      rw [sm_b3 (r := r) (by omega) (fun s hq => by rw [z r s hq]; rfl), Bk, mul_b3, et]
      refine congrArg (fun f => b3 f r k) ?_
      funext s
      split
      · rfl
      · rw [Int.mul_zero]
    · rw [sm_s3 (s := s) hs (fun r hq => by rw [z r s hq]; rfl), Vf, Int.mul_assoc, s3_mul]
      refine congrArg (fun f => s3 f s) ?_
      funext r
      split
      · rfl
      · rw [Int.zero_mul]
theorem tot_bk (w : Nat → Int) (lb : Nat → Nat) (k n : Nat) : tot w lb k n = Bk w lb k n n 0 := by
  rw [← dual w n n (Nat.le_refl _), Nat.sub_self, tot]
  refine sm_congr (fun s _ => ?_)
  rw [Bk]
  split
  · rw [Int.mul_one]
  · rw [Int.mul_zero]
end
section
/-! THE PLAIN LAW, 3: what a path reads is where it comes to -/
def plc (lb : Nat → Nat) (k n c : Nat) : Nat → Option Nat
  | 0 => some 0
  | t + 1 => match plc lb k n c t with
    | some s => stp lb k s (dg n c t)
    | none => none
theorem acc_plc (lb : Nat → Nat) (k n c : Nat) : ∀ t, t ≤ n → acc lb k n c 0 = match plc lb k n c t with | some s => acc lb k (n - t) c s | none => false
  | 0, _ => rfl
  | t + 1, h => by
    rw [acc_plc lb k n c t (by omega), plc]
    cases plc lb k n c t with
    | none => rfl
    | some s =>
      show acc lb k (n - t) c s = match stp lb k s (dg n c t) with | some s => acc lb k (n - (t + 1)) c s | none => false
      obtain ⟨d, hd⟩ : ∃ d, n - t = d + 1 := ⟨n - t - 1, by omega⟩
      rw [hd, show n - (t + 1) = d by omega, acc, dg, show n - 1 - t = d by omega]
      cases stp lb k s (c / 4 ^ d % 4) <;> rfl
/-- the list l is the label's first i marks -/
def isT (lb : Nat → Nat) (i : Nat) (l : List Nat) : Prop := l.length = i ∧ ∀ j, j < i → l[j]? = some (lb j)
def bad (lb : Nat → Nat) (k : Nat) (l : List Nat) : Prop := ∃ j v, j < k ∧ l[j]? = some v ∧ v ≠ lb j
theorem isT_push {lb : Nat → Nat} {i v : Nat} {l : List Nat} (h : isT lb i l) (hv : v = lb i) : isT lb (i + 1) (l ++ [v]) := by
  refine ⟨by rw [List.length_append, h.1]; rfl, fun j hj => ?_⟩
  rcases Nat.lt_or_ge j i with q | q
  · rw [List.getElem?_append_left (by rw [h.1]; exact q)]; exact h.2 j q
  · obtain rfl : j = i := by omega
    rw [List.getElem?_append_right (by rw [h.1]; exact Nat.le_refl _), h.1, Nat.sub_self, hv]; rfl
theorem bad_push {lb : Nat → Nat} {k v : Nat} {l : List Nat} (h : bad lb k l) : bad lb k (l ++ [v]) := by
  obtain ⟨j, x, h1, h2, h3⟩ := h
  exact ⟨j, x, h1, by rw [List.getElem?_append_left (List.getElem?_eq_some_iff.mp h2).1]; exact h2, h3⟩
theorem bad_new {lb : Nat → Nat} {k i v : Nat} {l : List Nat} (h : isT lb i l) (hi : i < k) (hv : v ≠ lb i) : bad lb k (l ++ [v]) :=
  ⟨i, v, hi, by rw [List.getElem?_append_right (by rw [h.1]; exact Nat.le_refl _), h.1, Nat.sub_self]; rfl, hv⟩
/-- the mark before frame t -/
def prv (p : Nat → Nat) (t : Nat) : Nat := if t = 0 then 0 else p (t - 1)
theorem rl_next {p : Nat → Nat} {t : Nat} : rl p (t + 1) = if p t ≠ prv p t ∧ p t ≠ 0 then rl p t ++ [p t] else rl p t := by
  rw [rl]
  by_cases h0 : t = 0
  · subst h0
    by_cases hp : p 0 = 0
    · rw [if_neg (fun q => q.2 hp), if_neg (fun q => q.2 hp)]
    · rw [if_pos ⟨Or.inl rfl, hp⟩, if_pos ⟨by rw [prv, if_pos rfl]; exact hp, hp⟩]
  · have e1 : prv p t = p (t - 1) := by rw [prv, if_neg h0]
    rw [e1]
    by_cases hq : p t ≠ p (t - 1) ∧ p t ≠ 0
    · rw [if_pos ⟨Or.inr hq.1, hq.2⟩, if_pos hq]
    · rw [if_neg hq, if_neg (fun q => hq ⟨q.1.resolve_left h0, q.2⟩)]
theorem prv_s {p : Nat → Nat} {t : Nat} : prv p (t + 1) = p t := by rw [prv, if_neg (by omega)]; rfl
/-- one mark on: the place, the list, the mark before -/
theorem read_step {lb : Nat → Nat} {k : Nat} (hb : lbk lb k) {s i v : Nat} {l : List Nat} (hs : s ≤ 2 * k) (hi : i = (s + 1) / 2) (h : isT lb i l) :
    (∀ r, stp lb k s v = some r → r ≤ 2 * k ∧ isT lb ((r + 1) / 2) (if v ≠ mk lb s ∧ v ≠ 0 then l ++ [v] else l) ∧ mk lb r = v) ∧
    (stp lb k s v = none → (v ≠ mk lb s ∧ v ≠ 0) ∧ (i = k ∨ (i < k ∧ v ≠ lb i))) := by
  subst hi
  constructor
  · intro r hr
    obtain ⟨h1, h2, h3⟩ := stp_of hb hs hr
    refine ⟨h2, ?_, h3⟩
    rcases ld_iff.mp h1 with h4 | h4 | ⟨h4, h5, h6⟩
    · subst h4
      rw [if_neg (fun q => q.1 h3.symm)]; exact h
    · subst h4
      rcases Nat.mod_two_eq_zero_or_one s with he | ho
      · have h7 := mk_pos hb (show (s + 1) % 2 = 1 by omega) h2
        rw [if_pos ⟨by rw [mk_even he]; omega, by omega⟩, show (s + 1 + 1) / 2 = (s + 1) / 2 + 1 by omega]
        exact isT_push h (by rw [← h3, mk_odd (by omega)])
      · have h7 : v = 0 := by rw [← h3, mk_even (by omega)]
        rw [if_neg (fun q => q.2 h7), show (s + 1 + 1) / 2 = (s + 1) / 2 by omega]; exact h
    · subst h4
      have h7 := mk_pos hb h5 h2
      rw [if_pos ⟨by rw [← h3]; exact h6, by omega⟩, show (s + 2 + 1) / 2 = (s + 1) / 2 + 1 by omega]
      exact isT_push h (by rw [← h3, mk_odd h5]; congr 1; omega)
  · intro hn
    unfold stp at hn
    by_cases h1 : v = mk lb s
    · rw [if_pos h1] at hn; cases hn
    · rw [if_neg h1] at hn
      by_cases h2 : v = 0
      · rw [if_pos h2] at hn; cases hn
      · rw [if_neg h2] at hn
        refine ⟨⟨h1, h2⟩, ?_⟩
        by_cases h3 : 2 * ((s + 1) / 2) + 1 ≤ 2 * k ∧ lb ((s + 1) / 2) = v
        · rw [if_pos h3] at hn; cases hn
        · by_cases h4 : (s + 1) / 2 < k
          · exact Or.inr ⟨h4, fun q => h3 ⟨by omega, q.symm⟩⟩
          · exact Or.inl (by omega)
theorem plc_inv {lb : Nat → Nat} {k : Nat} (hb : lbk lb k) (n c : Nat) : ∀ t, (∀ s, plc lb k n c t = some s → s ≤ 2 * k ∧ isT lb ((s + 1) / 2) (rl (dg n c) t) ∧ mk lb s = prv (dg n c) t) ∧ (plc lb k n c t = none → k < (rl (dg n c) t).length ∨ bad lb k (rl (dg n c) t))
  | 0 => by
    refine ⟨fun s hs => ?_, fun h => by simp [plc] at h⟩
    obtain rfl : 0 = s := by simpa [plc] using hs
    exact ⟨by omega, ⟨rfl, fun j hj => absurd hj (by omega)⟩, by rw [mk_even (by omega), prv, if_pos rfl]⟩
  | t + 1 => by
    obtain ⟨ih1, ih2⟩ := plc_inv hb n c t
    cases hp : plc lb k n c t with
    | none =>
      have e1 : plc lb k n c (t + 1) = none := by rw [plc, hp]
      refine ⟨fun s hs => (by rw [e1] at hs; cases hs), fun _ => ?_⟩
      rw [rl_next]
      split
      · rcases ih2 hp with q | q
        · left; rw [List.length_append]; omega
        · exact Or.inr (bad_push q)
      · exact ih2 hp
    | some s0 =>
      have e1 : plc lb k n c (t + 1) = stp lb k s0 (dg n c t) := by rw [plc, hp]
      obtain ⟨h1, h2, h3⟩ := ih1 s0 hp
      obtain ⟨r1, r2⟩ := read_step hb (v := dg n c t) h1 rfl h2
      rw [e1, rl_next, ← h3, prv_s]
      refine ⟨fun s hs => r1 s hs, fun hn => ?_⟩
      obtain ⟨q1, q2⟩ := r2 hn
      rw [if_pos q1]
      rcases q2 with q | ⟨q, q'⟩
      · left; rw [List.length_append, h2.1, q]; exact Nat.lt_succ_self _
      · exact Or.inr (bad_new h2 q q')
theorem fit0_acc {lb : Nat → Nat} {k : Nat} (hb : lbk lb k) (n c : Nat) : fitc lb k n c 0 = acc lb k n c 0 := by
  rw [acc_plc lb k n c n (Nat.le_refl _), Nat.sub_self]
  obtain ⟨i1, i2⟩ := plc_inv hb n c n
  cases hp : plc lb k n c n with
  | none =>
    show fitc lb k n c 0 = false
    cases hf : fitc lb k n c 0 with
    | false => rfl
    | true =>
      unfold fitc fit at hf
      rw [Bool.and_eq_true] at hf
      have f1 := (of_decide_eq_true hf.1).1 rfl
      have f2 := of_decide_eq_true hf.2
      rcases i2 hp with q | ⟨j, v, q1, q2, q3⟩
      · omega
      · rw [f2 j q1] at q2
        exact absurd (Option.some.inj q2).symm q3
  | some s =>
    obtain ⟨h1, h2, -⟩ := i1 s hp
    show fitc lb k n c 0 = decide (2 * k ≤ s + 1)
    unfold fitc fit
    by_cases hk : 2 * k ≤ s + 1
    · have e1 : (s + 1) / 2 = k := by omega
      rw [e1] at h2
      rw [decide_eq_true hk, decide_eq_true ⟨fun _ => h2.1, fun q => absurd rfl q⟩, decide_eq_true h2.2]; rfl
    · have h5 := h2.1
      rw [decide_eq_false hk, decide_eq_false (fun q => by have := q.1 rfl; omega)]; rfl
theorem e_tot {lb : Nat → Nat} {k : Nat} (hb : lbk lb k) (wt : Nat → Int) (n : Nat) : tot wt lb k n = mtot wt lb k n := by
  rw [tot_bk, ← ga_bk hb wt n n 0 (by omega), Ga, mtot]
  exact sm_congr (fun c _ => by rw [fit0_acc hb, pw_all])
/-- as plc, but it stays at the label's end -/
def plp (lb : Nat → Nat) (k n c : Nat) : Nat → Option Nat
  | 0 => some 0
  | t + 1 => match plp lb k n c t with
    | some s => if 2 * k ≤ s + 1 then some s else stp lb k s (dg n c t)
    | none => none
theorem acp_plp (lb : Nat → Nat) (k n c : Nat) : ∀ t, t ≤ n → acp lb k n c 0 = match plp lb k n c t with | some s => acp lb k (n - t) c s | none => false
  | 0, _ => rfl
  | t + 1, h => by
    rw [acp_plp lb k n c t (by omega), plp]
    cases plp lb k n c t with
    | none => rfl
    | some s =>
      obtain ⟨d, hd⟩ : ∃ d, n - t = d + 1 := ⟨n - t - 1, by omega⟩
      show acp lb k (n - t) c s = match (if 2 * k ≤ s + 1 then some s else stp lb k s (dg n c t)) with | some s => acp lb k (n - (t + 1)) c s | none => false
      by_cases hk : 2 * k ≤ s + 1
      · rw [if_pos hk, acp_end hk]
        exact (acp_end hk _ _).symm
      · rw [if_neg hk, hd, show n - (t + 1) = d by omega, acp, if_neg hk, dg, show n - 1 - t = d by omega]
        cases stp lb k s (c / 4 ^ d % 4) <;> rfl
theorem plp_inv {lb : Nat → Nat} {k : Nat} (hb : lbk lb k) (n c : Nat) : ∀ t, (∀ s, plp lb k n c t = some s → s ≤ 2 * k ∧ (2 * k ≤ s + 1 → k ≤ (rl (dg n c) t).length ∧ ∀ j, j < k → (rl (dg n c) t)[j]? = some (lb j)) ∧ (¬ 2 * k ≤ s + 1 → isT lb ((s + 1) / 2) (rl (dg n c) t) ∧ mk lb s = prv (dg n c) t)) ∧ (plp lb k n c t = none → bad lb k (rl (dg n c) t))
  | 0 => by
    refine ⟨fun s hs => ?_, fun h => by simp [plp] at h⟩
    obtain rfl : 0 = s := by simpa [plp] using hs
    exact ⟨by omega, fun h => ⟨by omega, fun j hj => absurd hj (by omega)⟩, fun _ => ⟨⟨rfl, fun j hj => absurd hj (by omega)⟩, by rw [mk_even (by omega), prv, if_pos rfl]⟩⟩
  | t + 1 => by
    obtain ⟨ih1, ih2⟩ := plp_inv hb n c t
    cases hp : plp lb k n c t with
    | none =>
      have e1 : plp lb k n c (t + 1) = none := by rw [plp, hp]
      refine ⟨fun s hs => (by rw [e1] at hs; cases hs), fun _ => ?_⟩
      rw [rl_next]
      split
      · exact bad_push (ih2 hp)
      · exact ih2 hp
    | some s0 =>
      obtain ⟨h1, h2, h3⟩ := ih1 s0 hp
      by_cases hk : 2 * k ≤ s0 + 1
      · have e1 : plp lb k n c (t + 1) = some s0 := by rw [plp, hp]; exact if_pos hk
        refine ⟨fun s hs => ?_, fun hn => (by rw [e1] at hn; cases hn)⟩
        obtain rfl : s0 = s := by rw [e1] at hs; simpa using hs
        obtain ⟨g1, g2⟩ := h2 hk
        refine ⟨h1, fun _ => ?_, fun q => absurd hk q⟩
        rw [rl_next]
        split
        · refine ⟨by rw [List.length_append]; omega, fun j hj => ?_⟩
          rw [List.getElem?_append_left (by omega)]; exact g2 j hj
        · exact ⟨g1, g2⟩
      · have e1 : plp lb k n c (t + 1) = stp lb k s0 (dg n c t) := by rw [plp, hp]; exact if_neg hk
        obtain ⟨g1, g2⟩ := h3 hk
        obtain ⟨r1, r2⟩ := read_step hb (v := dg n c t) h1 rfl g1
        rw [e1, rl_next, ← g2, prv_s]
        refine ⟨fun s hs => ?_, fun hn => ?_⟩
        · obtain ⟨a1, a2, a3⟩ := r1 s hs
          refine ⟨a1, fun q => ?_, fun _ => ⟨a2, a3⟩⟩
          have e2 : (s + 1) / 2 = k := by omega
          rw [e2] at a2
          exact ⟨by rw [a2.1]; exact Nat.le_refl _, a2.2⟩
        · obtain ⟨q1, q2⟩ := r2 hn
          rw [if_pos q1]
          rcases q2 with q | ⟨q, q'⟩
          · omega
          · exact bad_new g1 q q'
theorem fit1_acp {lb : Nat → Nat} {k : Nat} (hb : lbk lb k) (n c : Nat) : fitc lb k n c 1 = acp lb k n c 0 := by
  rw [acp_plp lb k n c n (Nat.le_refl _), Nat.sub_self]
  obtain ⟨i1, i2⟩ := plp_inv hb n c n
  cases hp : plp lb k n c n with
  | none =>
    show fitc lb k n c 1 = false
    cases hf : fitc lb k n c 1 with
    | false => rfl
    | true =>
      unfold fitc fit at hf
      rw [Bool.and_eq_true] at hf
      have f2 := of_decide_eq_true hf.2
      obtain ⟨j, v, q1, q2, q3⟩ := i2 hp
      rw [f2 j q1] at q2
      exact absurd (Option.some.inj q2).symm q3
  | some s =>
    obtain ⟨h1, h2, h3⟩ := i1 s hp
    show fitc lb k n c 1 = decide (2 * k ≤ s + 1)
    unfold fitc fit
    by_cases hk : 2 * k ≤ s + 1
    · obtain ⟨g1, g2⟩ := h2 hk
      rw [decide_eq_true hk, decide_eq_true ⟨fun q => absurd q (by decide), fun _ => g1⟩, decide_eq_true g2]; rfl
    · obtain ⟨g1, g2⟩ := h3 hk
      have h5 := g1.1
      rw [decide_eq_false hk, decide_eq_false (fun q => by have := q.2 (by decide); omega)]; rfl
theorem bnS_congr {T T' : Nat → Int} : ∀ {m : Nat}, (∀ i, 1 ≤ i → i ≤ m → T i = T' i) → bnS T m = bnS T' m
  | 0, _ => rfl
  | m + 1, h => by
    unfold bnS
    rw [bnS_congr (m := m) (fun i h1 h2 => h i h1 (by omega)), h (m + 1) (by omega) (by omega)]
theorem e_bn {lb : Nat → Nat} {k : Nat} (hb : lbk lb k) (wt : Nat → Int) (n : Nat) : bnR wt lb k n = mbnR wt lb k n := by
  unfold bnR mbnR
  by_cases hk : k < 4
  · rw [if_pos hk, if_pos hk, bnS_congr]
    intro i h1 h2
    refine e_tot ⟨up1_le hb.1 (by omega), fun j hj => ?_⟩ wt n
    unfold up1; split
    · exact h1
    · exact hb.2 j (by omega)
  · rw [if_neg hk, if_neg hk]
/-- through a mark at a frame: the other marks there weigh nothing -/
def wth (wt : Nat → Int) (x y : Nat) : Nat → Int := fun j => if j / 4 = x ∧ j % 4 ≠ y then 0 else wt j
theorem wth_at {wt : Nat → Int} {x y t m : Nat} (hm : m < 4) : wth wt x y (4 * t + m) = if t = x ∧ m ≠ y then 0 else wt (4 * t + m) := by
  unfold wth
  rw [show (4 * t + m) / 4 = t by omega, show (4 * t + m) % 4 = m by omega]
theorem vf_congr {w w' : Nat → Int} {lb : Nat → Nat} (hb : ∀ j, lb j ≤ 3) : ∀ {t : Nat} (s : Nat), (∀ t', t' < t → ∀ m, m < 4 → w (4 * t' + m) = w' (4 * t' + m)) → Vf w lb t s = Vf w' lb t s
  | 0, _, _ => rfl
  | t + 1, s, h => by
    unfold Vf
    rw [h t (by omega) _ (by have := mk_le hb s; omega)]
    refine congrArg (fun f => s3 f s * _) ?_
    funext r
    rw [vf_congr hb r (fun t' h1 => h t' (by omega))]
theorem bk_congr {w w' : Nat → Int} {lb : Nat → Nat} (hb : ∀ j, lb j ≤ 3) (k n : Nat) : ∀ {d : Nat} (s : Nat), (∀ d', d' < d → ∀ m, m < 4 → w (4 * (n - 1 - d') + m) = w' (4 * (n - 1 - d') + m)) → Bk w lb k n d s = Bk w' lb k n d s
  | 0, _, _ => rfl
  | d + 1, s, h => by
    unfold Bk
    refine congrArg (fun f => b3 f s k) ?_
    funext r
    rw [h d (by omega) _ (by have := mk_le hb r; omega), bk_congr hb k n r (fun d' h1 => h d' (by omega))]
theorem pdn_zero {f : Nat → Int} {x : Nat} (h0 : f x = 0) : ∀ {n : Nat}, x < n → pdn f n = 0
  | 0, h => absurd h (by omega)
  | n + 1, h => by
    rw [pdn]
    rcases Nat.lt_or_ge x n with q | q
    · rw [pdn_zero h0 q, Int.zero_mul]
    · obtain rfl : x = n := by omega
      rw [h0, Int.mul_zero]
theorem pdn_congr {f g : Nat → Int} : ∀ {n : Nat}, (∀ t, t < n → f t = g t) → pdn f n = pdn g n
  | 0, _ => rfl
  | n + 1, h => by
    rw [pdn, pdn, pdn_congr (fun t ht => h t (by omega)), h n (by omega)]
theorem pw_th (wt : Nat → Int) {n x y c : Nat} (hx : x < n) : pw (wth wt x y) n c = if dg n c x = y then pw wt n c else 0 := by
  by_cases h : dg n c x = y
  · rw [if_pos h]
    refine pdn_congr (fun t ht => ?_)
    rw [wth_at (dg_lt n c t), if_neg (fun q => q.2 (by rw [q.1]; exact h))]
  · rw [if_neg h]
    refine pdn_zero (x := x) ?_ hx
    show wth wt x y _ = 0
    rw [wth_at (dg_lt n c x), if_pos ⟨rfl, h⟩]
theorem e_th {lb : Nat → Nat} {k : Nat} (hb : lbk lb k) (wt : Nat → Int) (n : Nat) (x y : Int) : thR wt lb k n x y = mthR wt lb k n x y := by
  unfold thR mthR
  by_cases hc : (0 ≤ x ∧ x < (n : Int)) ∧ (0 ≤ y ∧ y < 4)
  · rw [if_pos hc, if_pos hc]
    obtain ⟨x, rfl⟩ : ∃ v : Nat, x = (v : Int) := ⟨x.toNat, by omega⟩
    obtain ⟨y, rfl⟩ : ∃ v : Nat, y = (v : Int) := ⟨y.toNat, by omega⟩
    rw [Int.toNat_natCast]
    have hx : x < n := by omega
    have e1 : sm (fun s => if ((mk lb s : Nat) : Int) = (y : Int) then Vf wt lb (x + 1) s * Bk wt lb k n (n - 1 - x) s else 0) (2 * k + 1) = Bk (wth wt x y) lb k n n 0 := by
      rw [← dual (wth wt x y) n (x + 1) (by omega)]
      refine sm_congr (fun s _ => ?_)
      have hmk := mk_le hb.1 s
      have eV : ∀ r, Vf (wth wt x y) lb x r = Vf wt lb x r := fun r => vf_congr hb.1 r (fun t' h1 m hm => by rw [wth_at hm, if_neg (by omega)])
      have eB : Bk (wth wt x y) lb k n (n - (x + 1)) s = Bk wt lb k n (n - 1 - x) s := by
        rw [show n - (x + 1) = n - 1 - x by omega]
        exact bk_congr hb.1 k n s (fun d' h1 m hm => by rw [wth_at hm, if_neg (by omega)])
      rw [eB, Vf, Vf, wth_at (by omega)]
      have eS : (fun r => if ld lb r s then Vf (wth wt x y) lb x r else 0) = fun r => if ld lb r s then Vf wt lb x r else 0 := by
        funext r; rw [eV r]
      rw [eS]
      by_cases hy : mk lb s = y
      · rw [if_pos (by omega), if_neg (fun q => q.2 hy)]
      · rw [if_neg (by omega), if_pos ⟨rfl, hy⟩, Int.mul_zero, Int.zero_mul]
    rw [e1, ← ga_bk hb (wth wt x y) n n 0 (by omega), Ga]
    refine sm_congr (fun c _ => ?_)
    rw [← fit0_acc hb, ← pw_all, pw_th wt hx]
    by_cases h1 : fitc lb k n c 0 = true
    · rw [if_pos h1]
      by_cases h2 : dg n c x = y
      · rw [if_pos h2, if_pos ⟨by omega, h1⟩]
      · rw [if_neg h2, if_neg (fun q => h2 (by have := q.1; omega))]
    · rw [if_neg h1, if_neg (fun q => h1 q.2)]
  · rw [if_neg hc, if_neg hc]
end
section
/-! THE PLAIN LAW, 4: first arrivals; the greatest weight, and its first path -/
theorem pf_arr {lb : Nat → Nat} {k : Nat} (hk : 0 < k) (w : Nat → Int) (t : Nat) : sm (fun s => if ld lb s (2 * k - 1) then Vf w lb t s else 0) (2 * k - 1) = pfA w lb k t := by
  have z : ∀ s, s + 2 < 2 * k - 1 → ld lb s (2 * k - 1) = false := fun s hs => by
    cases hc : ld lb s (2 * k - 1) with
    | false => rfl
    | true => have := ld_rng hc; omega
  have l1 : ld lb (2 * k - 2) (2 * k - 1) = true := ld_iff.mpr (Or.inr (Or.inl (by omega)))
  unfold pfA
  rw [if_pos l1]
  by_cases h2 : 2 ≤ k
  · obtain ⟨q, hq⟩ : ∃ q, 2 * k - 1 = q + 2 := ⟨2 * k - 3, by omega⟩
    rw [hq]
    show sm _ q + (if ld lb q (q + 2) then Vf w lb t q else 0) + (if ld lb (q + 1) (q + 2) then Vf w lb t (q + 1) else 0) = _
    rw [sm_0 (fun i hi => by rw [← hq, z i (by omega)]; rfl), Int.zero_add, show 2 * k - 3 = q by omega, show 2 * k - 2 = q + 1 by omega]
    rw [show 2 * k - 2 = q + 1 by omega, hq] at l1
    rw [if_pos l1]
    by_cases h3 : ld lb q (q + 2) = true
    · rw [if_pos h3, if_pos ⟨h2, h3⟩]
    · rw [if_neg h3, if_neg (fun x => h3 x.2)]
  · obtain rfl : k = 1 := by omega
    rw [if_neg (fun x => h2 x.1)]
    show 0 + (if ld lb 0 1 then Vf w lb t 0 else 0) = _
    rw [if_pos l1]
theorem pf_dual {lb : Nat → Nat} {k : Nat} (hb : lbk lb k) (hk : 0 < k) (w : Nat → Int) (n : Nat) : ∀ t, t ≤ n → sm (fun t => pfA w lb k t * w (4 * t + mk lb (2 * k - 1)) * pdr (fsm w) (t + 1) (n - 1 - t)) t + sm (fun s => Vf w lb t s * Gp w lb k n (n - t) s) (2 * k - 1) = Gp w lb k n n 0
  | 0, _ => by
    rw [sm_tail (b := 1) (N := 2 * k - 1) (by omega) (fun i h1 _ => by rw [Vf, if_neg (by omega), Int.zero_mul])]
    show 0 + (0 + Vf w lb 0 0 * Gp w lb k n (n - 0) 0) = _
    rw [Vf, if_pos rfl, Int.one_mul, Int.zero_add, Int.zero_add]; rfl
  | t + 1, h => by
    rw [← pf_dual hb hk w n t (by omega)]
    obtain ⟨d, hd⟩ : ∃ d, n - t = d + 1 := ⟨n - t - 1, by omega⟩
    have et : n - 1 - d = t := by omega
    rw [hd, show n - (t + 1) = d by omega]
    have z : ∀ r s, ¬ (r ≤ s ∧ s ≤ r + 2) → ld lb r s = false := fun r s hq => by
      cases hc : ld lb r s with
      | false => rfl
      | true => exact absurd (ld_rng hc) hq
    -- the right side, place by place
    have e1 : sm (fun s => Vf w lb t s * Gp w lb k n (d + 1) s) (2 * k - 1) = sm (fun r => sm (fun s => if ld lb s r then Vf w lb t s else 0) (2 * k - 1) * (w (4 * t + mk lb r) * Gp w lb k n d r)) (2 * k + 1) := by
      have a1 : ∀ s, s < 2 * k - 1 → Vf w lb t s * Gp w lb k n (d + 1) s = sm (fun r => (w (4 * t + mk lb r) * Gp w lb k n d r) * (if ld lb s r then Vf w lb t s else 0)) (2 * k + 1) := by
        intro s hs
        rw [gp_step hb (by omega) (by omega), mul_b3, et, sm_b3 (r := s) (by omega) (fun r hq => by rw [z s r hq]; simp)]
        refine congrArg (fun f => b3 f s k) ?_
        funext r
        split
        · rw [Int.mul_comm]
        · rw [Int.mul_zero, Int.mul_zero]
      rw [sm_congr a1, sm_swap]
      refine sm_congr (fun r _ => ?_)
      rw [sm_mul, Int.mul_comm]
    have e2 : sm (fun r => sm (fun s => if ld lb s r then Vf w lb t s else 0) (2 * k - 1) * (w (4 * t + mk lb r) * Gp w lb k n d r)) (2 * k + 1) = sm (fun s => Vf w lb (t + 1) s * Gp w lb k n d s) (2 * k - 1) + pfA w lb k t * (w (4 * t + mk lb (2 * k - 1)) * Ge w n d) := by
      obtain ⟨q, hq⟩ : ∃ q, 2 * k - 1 = q := ⟨_, rfl⟩
      have hq2 : 2 * k + 1 = q + 2 := by omega
      rw [← pf_arr hk w t, hq, hq2]
      show sm _ q + _ + _ = _
      have b2 : sm (fun s => if ld lb s (q + 1) then Vf w lb t s else 0) q = 0 := by
        refine sm_0 (fun s hs => ?_)
        cases hc : ld lb s (q + 1) with
        | false => rfl
        | true =>
          have := ld_iff.mp hc
          omega
      dsimp only
      rw [b2, Int.zero_mul, Int.add_zero, gp_end (show 2 * k ≤ q + 1 by omega)]
      congr 1
      refine sm_congr (fun r hr => ?_)
      have b3' : sm (fun s => if ld lb s r then Vf w lb t s else 0) q = s3 (fun s => if ld lb s r then Vf w lb t s else 0) r := sm_s3 hr (fun s hz => by rw [z s r hz]; rfl)
      rw [b3', Vf, Int.mul_assoc]
    rw [e1, e2, ge_pdr w n d (by omega), show n - d = t + 1 by omega]
    have e3 : pfA w lb k t * w (4 * t + mk lb (2 * k - 1)) * pdr (fsm w) (t + 1) (n - 1 - t) = pfA w lb k t * (w (4 * t + mk lb (2 * k - 1)) * pdr (fsm w) (t + 1) d) := by rw [show n - 1 - t = d by omega, Int.mul_assoc]
    show sm _ t + pfA w lb k t * w (4 * t + mk lb (2 * k - 1)) * pdr (fsm w) (t + 1) (n - 1 - t) + _ = _
    rw [e3]
    omega
theorem e_pf {lb : Nat → Nat} {k : Nat} (hb : lbk lb k) (wt : Nat → Int) (n : Nat) : pfR wt lb k n = mpfR wt lb k n := by
  have e0 : mpfR wt lb k n = Gp wt lb k n n 0 := sm_congr (fun c _ => by rw [fit1_acp hb, pw_all])
  rw [e0, pfR]
  by_cases hk : k = 0
  · rw [if_pos hk, gp_end (by omega), ge_pdn wt n n (Nat.le_refl _), Nat.sub_self, pdn, Int.one_mul]
  · rw [if_neg hk, ← pf_dual hb (by omega) wt n n (Nat.le_refl _), Nat.sub_self]
    rw [sm_0 (f := fun s => Vf wt lb n s * Gp wt lb k n 0 s) (fun s hs => ?_), Int.add_zero]
    have g0 : Gp wt lb k n 0 s = 0 := by
      show 0 + (if decide (2 * k ≤ s + 1) = true then (1 : Int) else 0) = 0
      rw [if_neg (by simp; omega)]; rfl
    rw [g0, Int.mul_zero]
/-- mst: no less than what it had, no less than what it is offered, and one of both -/
theorem mst_ge {b : Bool} {w x y : Int} : y ≤ mst b w x y := by
  unfold mst; split
  · next h => exact Int.le_of_lt h.2.2
  · exact Int.le_refl _
theorem mst_ge2 {b : Bool} {w x y : Int} (hb : b = true) (hx : 0 ≤ x) : w * x ≤ mst b w x y := by
  unfold mst; split
  · exact Int.le_refl _
  · next h =>
    refine Int.not_lt.mp (fun q => h ⟨hb, hx, q⟩)
theorem mst_or {b : Bool} {w x y : Int} : mst b w x y = y ∨ (b = true ∧ 0 ≤ x ∧ mst b w x y = w * x) := by
  unfold mst
  by_cases h : b = true ∧ 0 ≤ x ∧ y < w * x
  · rw [if_pos h]; exact Or.inr ⟨h.1, h.2.1, rfl⟩
  · rw [if_neg h]; exact Or.inl rfl
theorem mx_cand {w : Nat → Int} {lb : Nat → Nat} {k n d s r : Nat} (hl : ld lb s r = true) (hr : r ≤ 2 * k) (h0 : 0 ≤ Mx w lb k n d r) : w (4 * (n - 1 - d) + mk lb r) * Mx w lb k n d r ≤ Mx w lb k n (d + 1) s := by
  rw [Mx.eq_2]
  rcases ld_iff.mp hl with h | h | h
  · subst h
    exact Int.le_trans (mst_ge2 hl h0) (Int.le_trans mst_ge mst_ge)
  · subst h
    exact Int.le_trans (mst_ge2 (by rw [hl, decide_eq_true hr]; rfl) h0) mst_ge
  · have h := h.1
    subst h
    exact mst_ge2 (by rw [hl, decide_eq_true hr]; rfl) h0
theorem mx_from {w : Nat → Int} {lb : Nat → Nat} {k n d s : Nat} (hs : s ≤ 2 * k) (h : 0 ≤ Mx w lb k n (d + 1) s) : ∃ r, ld lb s r = true ∧ r ≤ 2 * k ∧ 0 ≤ Mx w lb k n d r ∧ Mx w lb k n (d + 1) s = w (4 * (n - 1 - d) + mk lb r) * Mx w lb k n d r := by
  rw [Mx.eq_2] at h ⊢
  rcases mst_or (b := ld lb s (s + 2) && decide (s + 2 ≤ 2 * k)) (w := w (4 * (n - 1 - d) + mk lb (s + 2))) (x := Mx w lb k n d (s + 2)) (y := mst (ld lb s (s + 1) && decide (s + 1 ≤ 2 * k)) (w (4 * (n - 1 - d) + mk lb (s + 1))) (Mx w lb k n d (s + 1)) (mst (ld lb s s) (w (4 * (n - 1 - d) + mk lb s)) (Mx w lb k n d s) (-1))) with q | ⟨q1, q2, q3⟩
  · rw [q] at h ⊢
    rcases mst_or (b := ld lb s (s + 1) && decide (s + 1 ≤ 2 * k)) (w := w (4 * (n - 1 - d) + mk lb (s + 1))) (x := Mx w lb k n d (s + 1)) (y := mst (ld lb s s) (w (4 * (n - 1 - d) + mk lb s)) (Mx w lb k n d s) (-1)) with q | ⟨q1, q2, q3⟩
    · rw [q] at h ⊢
      rcases mst_or (b := ld lb s s) (w := w (4 * (n - 1 - d) + mk lb s)) (x := Mx w lb k n d s) (y := -1) with q | ⟨q1, q2, q3⟩
      · rw [q] at h; omega
      · exact ⟨s, q1, hs, q2, q3⟩
    · rw [Bool.and_eq_true] at q1
      exact ⟨s + 1, q1.1, of_decide_eq_true q1.2, q2, q3⟩
  · rw [Bool.and_eq_true] at q1
    exact ⟨s + 2, q1.1, of_decide_eq_true q1.2, q2, q3⟩
theorem acc_s {lb : Nat → Nat} {k d c s : Nat} (h : acc lb k (d + 1) c s = true) : ∃ r, stp lb k s (c / 4 ^ d % 4) = some r ∧ acc lb k d c r = true := by
  rw [acc] at h
  cases hs : stp lb k s (c / 4 ^ d % 4) with
  | none => rw [hs] at h; cases h
  | some r => rw [hs] at h; exact ⟨r, rfl, h⟩
theorem mx_ub {w : Nat → Int} (hw : ∀ j, 0 ≤ w j ∧ w j ≤ 8) {lb : Nat → Nat} {k : Nat} (hb : lbk lb k) (n : Nat) : ∀ d c s, s ≤ 2 * k → acc lb k d c s = true → swt w n d c ≤ Mx w lb k n d s
  | 0, c, s, _, h => by
    rw [swt, Mx, if_pos (of_decide_eq_true h)]; exact Int.le_refl _
  | d + 1, c, s, hs, h => by
    obtain ⟨r, h1, h2⟩ := acc_s h
    obtain ⟨g1, g2, g3⟩ := stp_of hb hs h1
    have ih := mx_ub hw hb n d c r g2 h2
    have h0 := swt_nn hw n c d
    refine Int.le_trans ?_ (mx_cand g1 g2 (Int.le_trans h0 ih))
    rw [swt, g3]
    exact Int.mul_le_mul_of_nonneg_left ih (hw _).1
theorem mx_at {w : Nat → Int} {lb : Nat → Nat} {k : Nat} (hb : lbk lb k) (n : Nat) : ∀ d s, s ≤ 2 * k → 0 ≤ Mx w lb k n d s → ∃ c, c < 4 ^ d ∧ acc lb k d c s = true ∧ swt w n d c = Mx w lb k n d s
  | 0, s, _, h => by
    rw [Mx] at h ⊢
    by_cases h1 : 2 * k ≤ s + 1
    · exact ⟨0, by decide, decide_eq_true h1, by rw [swt, if_pos h1]⟩
    · rw [if_neg h1] at h; omega
  | d + 1, s, hs, h => by
    obtain ⟨r, h1, h2, h3, h4⟩ := mx_from hs h
    obtain ⟨c, c1, c2, c3⟩ := mx_at hb n d r h2 h3
    have hm : mk lb r < 4 := by have := mk_le hb.1 r; omega
    have hp : 0 < 4 ^ d := Nat.pow_pos (by decide)
    refine ⟨mk lb r * 4 ^ d + c, ?_, ?_, ?_⟩
    · rw [p4s]
      have : mk lb r * 4 ^ d ≤ 3 * 4 ^ d := Nat.mul_le_mul_right _ (by omega)
      omega
    · rw [acc_comp hm c1, stp_to hb hs h2 h1]; exact c2
    · rw [swt_comp hm c1, c3, h4]
/-- what the model's search has found behind c codes -/
theorem mfo_inv (wt : Nat → Int) (lb : Nat → Nat) (k n : Nat) : ∀ c, ((mfo wt lb k n c).1 < 0 → ∀ c', c' < c → ¬ fitc lb k n c' 0 = true) ∧ (∀ a : Nat, (mfo wt lb k n c).1 = (a : Int) → a < c ∧ fitc lb k n a 0 = true ∧ (mfo wt lb k n c).2 = pw wt n a ∧ (∀ c', c' < c → fitc lb k n c' 0 = true → pw wt n c' ≤ pw wt n a) ∧ (∀ c', c' < a → fitc lb k n c' 0 = true → pw wt n c' < pw wt n a))
  | 0 => ⟨fun _ c' h => absurd h (by omega), fun a h => by
      have h : (-1 : Int) = (a : Int) := h
      omega⟩
  | c + 1 => by
    obtain ⟨i1, i2⟩ := mfo_inv wt lb k n c
    by_cases hc : fitc lb k n c 0 = true ∧ ((mfo wt lb k n c).1 < 0 ∨ (mfo wt lb k n c).2 < pw wt n c)
    · have e1 : mfo wt lb k n (c + 1) = ((c : Int), pw wt n c) := by rw [mfo, if_pos hc]
      rw [e1]
      refine ⟨fun h => ?_, fun a h => ?_⟩
      · have h : (c : Int) < 0 := h
        omega
      · have h : (c : Int) = (a : Int) := h
        obtain rfl : c = a := by omega
        have low : ∀ c', c' < c → fitc lb k n c' 0 = true → pw wt n c' < pw wt n c := by
          intro c' h1 h2
          rcases hc.2 with q | q
          · exact absurd h2 (i1 q c' h1)
          · by_cases h0 : (mfo wt lb k n c).1 < 0
            · exact absurd h2 (i1 h0 c' h1)
            · obtain ⟨b, hbq⟩ : ∃ b : Nat, (mfo wt lb k n c).1 = (b : Int) := ⟨(mfo wt lb k n c).1.toNat, by omega⟩
              obtain ⟨j1, j2, j3, j4, j5⟩ := i2 b hbq
              have := j4 c' h1 h2
              omega
        refine ⟨by omega, hc.1, rfl, fun c' h1 h2 => ?_, low⟩
        rcases Nat.lt_or_ge c' c with q | q
        · exact Int.le_of_lt (low c' q h2)
        · obtain rfl : c' = c := by omega
          exact Int.le_refl _
    · have e1 : mfo wt lb k n (c + 1) = mfo wt lb k n c := by rw [mfo, if_neg hc]
      rw [e1]
      refine ⟨fun h c' h1 h2 => ?_, fun a h => ?_⟩
      · rcases Nat.lt_or_ge c' c with q | q
        · exact i1 h c' q h2
        · obtain rfl : c' = c := by omega
          exact hc ⟨h2, Or.inl h⟩
      · obtain ⟨j1, j2, j3, j4, j5⟩ := i2 a h
        refine ⟨by omega, j2, j3, fun c' h1 h2 => ?_, j5⟩
        rcases Nat.lt_or_ge c' c with q | q
        · exact j4 c' q h2
        · obtain rfl : c' = c := by omega
          refine Int.not_lt.mp (fun q => hc ⟨h2, Or.inr ?_⟩)
          rw [j3]; exact q
/-- the first path with the greatest weight -/
theorem mfo_mx {wt : Nat → Int} (hw : ∀ j, 0 ≤ wt j ∧ wt j ≤ 8) {lb : Nat → Nat} {k : Nat} (hb : lbk lb k) (n : Nat) : (Mx wt lb k n n 0 < 0 → (mfo wt lb k n (4 ^ n)).1 < 0) ∧ (0 ≤ Mx wt lb k n n 0 → ∃ a : Nat, (mfo wt lb k n (4 ^ n)).1 = (a : Int) ∧ a < 4 ^ n ∧ acc lb k n a 0 = true ∧ swt wt n n a = Mx wt lb k n n 0 ∧ ∀ c, c < a → acc lb k n c 0 = true → swt wt n n c ≠ Mx wt lb k n n 0) := by
  obtain ⟨i1, i2⟩ := mfo_inv wt lb k n (4 ^ n)
  refine ⟨fun h => ?_, fun h => ?_⟩
  · refine Int.not_le.mp (fun q => ?_)
    obtain ⟨b, hbq⟩ : ∃ b : Nat, (mfo wt lb k n (4 ^ n)).1 = (b : Int) := ⟨(mfo wt lb k n (4 ^ n)).1.toNat, by omega⟩
    obtain ⟨j1, j2, j3, j4, j5⟩ := i2 b hbq
    rw [fit0_acc hb] at j2
    have h1 := mx_ub hw hb n n b 0 (by omega) j2
    have h2 := swt_nn hw n b n
    omega
  · obtain ⟨c, c1, c2, c3⟩ := mx_at hb n n 0 (by omega) h
    have hn : ¬ (mfo wt lb k n (4 ^ n)).1 < 0 := fun q => i1 q c c1 (by rw [fit0_acc hb]; exact c2)
    obtain ⟨a, ha⟩ : ∃ b : Nat, (mfo wt lb k n (4 ^ n)).1 = (b : Int) := ⟨(mfo wt lb k n (4 ^ n)).1.toNat, by omega⟩
    obtain ⟨j1, j2, j3, j4, j5⟩ := i2 a ha
    have j2' := j2
    rw [fit0_acc hb] at j2'
    have k1 := mx_ub hw hb n n a 0 (by omega) j2'
    have k2 := j4 c c1 (by rw [fit0_acc hb]; exact c2)
    rw [pw_all, pw_all] at k2
    have e1 : swt wt n n a = Mx wt lb k n n 0 := by omega
    refine ⟨a, ha, j1, j2', e1, fun c' h1 h2 => ?_⟩
    have := j5 c' h1 (by rw [fit0_acc hb]; exact h2)
    rw [pw_all, pw_all] at this
    omega
theorem e_best {wt : Nat → Int} (hw : ∀ j, 0 ≤ wt j ∧ wt j ≤ 8) {lb : Nat → Nat} {k : Nat} (hb : lbk lb k) (n : Nat) : (if Mx wt lb k n n 0 < 0 then 0 else Mx wt lb k n n 0) = mbR wt lb k n := by
  obtain ⟨m1, m2⟩ := mfo_mx hw hb n
  unfold mbR
  by_cases h : Mx wt lb k n n 0 < 0
  · rw [if_pos h, if_pos (m1 h)]
  · obtain ⟨a, a1, a2, a3, a4, a5⟩ := m2 (by omega)
    rw [if_neg h, a1, if_neg (by omega), Int.toNat_natCast, pw_all, a4]
end
section
/-! THE PLAIN LAW, 5: following the greatest weight gives its first path -/
/-- c0 is the first of the paths of d frames from place s that weigh M with so -/
def Lst (w : Nat → Int) (lb : Nat → Nat) (k n : Nat) (M : Int) (d s : Nat) (so : Int) (c0 : Nat) : Prop :=
  s ≤ 2 * k ∧ c0 < 4 ^ d ∧ 0 ≤ so ∧ acc lb k d c0 s = true ∧ so * swt w n d c0 = M ∧ (∀ c, acc lb k d c s = true → so * swt w n d c ≤ M) ∧ ∀ c, c < c0 → acc lb k d c s = true → so * swt w n d c ≠ M
theorem mod_dig {c d i : Nat} (hi : i < d) : c % 4 ^ d / 4 ^ i % 4 = c / 4 ^ i % 4 := by
  have h := dig_lo (m := c / 4 ^ d) (c := c % 4 ^ d) hi
  rw [Nat.mul_comm, Nat.div_add_mod] at h
  exact h.symm
theorem lst_step {w : Nat → Int} (hw : ∀ j, 0 ≤ w j ∧ w j ≤ 8) {lb : Nat → Nat} {k : Nat} (hb : lbk lb k) {n : Nat} {M : Int} {d s c0 : Nat} {so : Int} (h : Lst w lb k n M (d + 1) s so c0) :
    ∃ r, stp lb k s (c0 / 4 ^ d % 4) = some r ∧ Lst w lb k n M d r (so * w (4 * (n - 1 - d) + c0 / 4 ^ d % 4)) (c0 % 4 ^ d) ∧ (ld lb s r = true ∧ r ≤ 2 * k ∧ mk lb r = c0 / 4 ^ d % 4 ∧ 0 ≤ Mx w lb k n d r ∧ so * w (4 * (n - 1 - d) + mk lb r) * Mx w lb k n d r = M) ∧
      ∀ s', s' ≤ 2 * k → ld lb s s' = true → 0 ≤ Mx w lb k n d s' → so * w (4 * (n - 1 - d) + mk lb s') * Mx w lb k n d s' = M → c0 / 4 ^ d % 4 ≤ mk lb s' := by
  obtain ⟨hs, hc, hso, ha, he, hmax, hmin⟩ := h
  obtain ⟨r, h1, h2⟩ := acc_s ha
  obtain ⟨g1, g2, g3⟩ := stp_of hb hs h1
  have hp : 0 < 4 ^ d := Nat.pow_pos (by decide)
  have hm4 : c0 / 4 ^ d % 4 < 4 := Nat.mod_lt _ (by decide)
  rw [p4s] at hc
  have hq : c0 / 4 ^ d < 4 := Nat.div_lt_of_lt_mul (by rw [Nat.mul_comm]; exact hc)
  have hqm : c0 / 4 ^ d % 4 = c0 / 4 ^ d := Nat.mod_eq_of_lt hq
  have hc0 : c0 / 4 ^ d % 4 * 4 ^ d + c0 % 4 ^ d = c0 := by rw [hqm, Nat.mul_comm]; exact Nat.div_add_mod _ _
  have hlt : c0 % 4 ^ d < 4 ^ d := Nat.mod_lt _ hp
  have e1 : ∀ c, so * w (4 * (n - 1 - d) + c0 / 4 ^ d % 4) * swt w n d c = so * (w (4 * (n - 1 - d) + c0 / 4 ^ d % 4) * swt w n d c) := fun c => Int.mul_assoc _ _ _
  have up : ∀ c, acc lb k d c r = true → so * w (4 * (n - 1 - d) + c0 / 4 ^ d % 4) * swt w n d c ≤ M := by
    intro c hac
    have hcl : c % 4 ^ d < 4 ^ d := Nat.mod_lt _ hp
    have a1 : acc lb k (d + 1) (c0 / 4 ^ d % 4 * 4 ^ d + c % 4 ^ d) s = true := by
      rw [acc_comp hm4 hcl, h1]
      show acc lb k d (c % 4 ^ d) r = true
      rw [acc_congr r (fun i hi => mod_dig hi)]; exact hac
    have := hmax _ a1
    rw [swt_comp hm4 hcl, swt_congr (fun i hi => mod_dig hi)] at this
    rw [e1]; exact this
  have hL : Lst w lb k n M d r (so * w (4 * (n - 1 - d) + c0 / 4 ^ d % 4)) (c0 % 4 ^ d) := by
    refine ⟨g2, hlt, Int.mul_nonneg hso (hw _).1, ?_, ?_, up, ?_⟩
    · rw [acc_congr r (fun i hi => mod_dig hi)]; exact h2
    · rw [e1, swt_congr (fun i hi => mod_dig hi)]; exact he
    · intro c hcl hac
      have a1 : acc lb k (d + 1) (c0 / 4 ^ d % 4 * 4 ^ d + c) s = true := by
        rw [acc_comp hm4 (by omega), h1]; exact hac
      have := hmin _ (by omega) a1
      rw [swt_comp hm4 (by omega)] at this
      rw [e1]; exact this
  have u1 := mx_ub hw hb n d (c0 % 4 ^ d) r g2 hL.2.2.2.1
  have u0 := swt_nn hw n (c0 % 4 ^ d) d
  have hM0 : 0 ≤ Mx w lb k n d r := Int.le_trans u0 u1
  refine ⟨r, h1, hL, ⟨g1, g2, g3, hM0, ?_⟩, ?_⟩
  · obtain ⟨c, c1, c2, c3⟩ := mx_at hb n d r g2 hM0
    have b1 := up c c2
    rw [c3] at b1
    have b2 := Int.mul_le_mul_of_nonneg_left u1 hL.2.2.1
    rw [hL.2.2.2.2.1] at b2
    rw [g3]
    omega
  · intro s' hs' hl hM hE
    obtain ⟨c, c1, c2, c3⟩ := mx_at hb n d s' hs' hM
    have hm : mk lb s' < 4 := by have := mk_le hb.1 s'; omega
    rcases Nat.lt_or_ge (mk lb s') (c0 / 4 ^ d % 4) with q | q
    · have a1 : acc lb k (d + 1) (mk lb s' * 4 ^ d + c) s = true := by
        rw [acc_comp hm c1, stp_to hb hs hs' hl]; exact c2
      have a2 : (mk lb s' + 1) * 4 ^ d ≤ c0 / 4 ^ d % 4 * 4 ^ d := Nat.mul_le_mul_right _ q
      rw [Nat.succ_mul] at a2
      have := hmin _ (by omega) a1
      rw [swt_comp hm c1, c3, ← Int.mul_assoc] at this
      exact absurd hE this
    · exact q
theorem pck_some {K : Nat → Bool} {f : Nat → Nat} : ∀ {N : Nat}, (∃ i, i < N ∧ K i = true) → ∃ b, pck K f N = some b
  | 0, h => by obtain ⟨i, h1, _⟩ := h; omega
  | N + 1, h => by
    rw [pck]
    by_cases hc : K N = true ∧ (∀ b, pck K f N = some b → f N < f b)
    · exact ⟨N, if_pos hc⟩
    · rw [if_neg hc]
      by_cases hk : K N = true
      · cases hp : pck K f N with
        | some b => exact ⟨b, rfl⟩
        | none => exact absurd ⟨hk, fun b hb => by rw [hp] at hb; cases hb⟩ hc
      · obtain ⟨i, h1, h2⟩ := h
        refine pck_some ⟨i, ?_, h2⟩
        rcases Nat.lt_or_ge i N with q | q
        · exact q
        · obtain rfl : i = N := by omega
          exact absurd h2 hk
theorem pck_spec {K : Nat → Bool} {f : Nat → Nat} : ∀ {N b : Nat}, pck K f N = some b → K b = true ∧ ∀ i, i < N → K i = true → f b ≤ f i
  | 0, b, h => by simp [pck] at h
  | N + 1, b, h => by
    rw [pck] at h
    by_cases hc : K N = true ∧ (∀ b, pck K f N = some b → f N < f b)
    · rw [if_pos hc] at h
      obtain rfl : N = b := by simpa using h
      refine ⟨hc.1, fun i hi hK => ?_⟩
      rcases Nat.lt_or_ge i N with q | q
      · obtain ⟨b, hb⟩ := pck_some (f := f) ⟨i, q, hK⟩
        have h1 := hc.2 b hb
        have h2 := (pck_spec hb).2 i q hK
        omega
      · obtain rfl : i = N := by omega
        exact Nat.le_refl _
    · rw [if_neg hc] at h
      obtain ⟨h1, h2⟩ := pck_spec h
      refine ⟨h1, fun i hi hK => ?_⟩
      rcases Nat.lt_or_ge i N with q | q
      · exact h2 i q hK
      · obtain rfl : i = N := by omega
        refine Nat.not_lt.mp (fun q => hc ⟨hK, fun b' hb' => ?_⟩)
        rw [h] at hb'
        obtain rfl : b = b' := by simpa using hb'
        exact q
theorem opn_0 (lb : Nat → Nat) (s : Nat) : opn lb none s = ld lb 0 s := by
  show decide (s ≤ 1) = ld lb 0 s
  cases hc : ld lb 0 s with
  | true =>
    have := ld_iff.mp hc
    exact decide_eq_true (by omega)
  | false =>
    refine decide_eq_false (fun q => ?_)
    have : ld lb 0 s = true := ld_iff.mpr (by omega)
    rw [hc] at this; cases this
/-- the desk's steps go along the model's first path -/
theorem gst_inv {wt : Nat → Int} (hw : ∀ j, 0 ≤ wt j ∧ wt j ≤ 8) {lb : Nat → Nat} {k : Nat} (hb : lbk lb k) {n a : Nat} (ha : a < 4 ^ n) (h1 : acc lb k n a 0 = true) (h2 : swt wt n n a = Mx wt lb k n n 0) (h3 : ∀ c, c < a → acc lb k n c 0 = true → swt wt n n c ≠ Mx wt lb k n n 0) :
    ∀ u, u ≤ n → ∃ s, Lst wt lb k n (Mx wt lb k n n 0) (n - u) s (gst wt lb k n u).2 (a % 4 ^ (n - u)) ∧ (∀ s', opn lb (gst wt lb k n u).1 s' = ld lb s s') ∧ (0 < u → (gst wt lb k n u).1 = some s ∧ mk lb s = dg n a (u - 1))
  | 0, _ => by
    refine ⟨0, ⟨by omega, Nat.mod_lt _ (Nat.pow_pos (by decide)), (show (0 : Int) ≤ 1 by decide), ?_, ?_, ?_, ?_⟩, fun s' => opn_0 lb s', fun q => absurd q (by omega)⟩
    · rw [Nat.sub_zero, Nat.mod_eq_of_lt ha]; exact h1
    · rw [Nat.sub_zero, Nat.mod_eq_of_lt ha]
      show 1 * _ = _
      rw [Int.one_mul]; exact h2
    · intro c hc
      show 1 * _ ≤ _
      rw [Int.one_mul]
      exact mx_ub hw hb n n c 0 (by omega) hc
    · intro c hc hac
      rw [Nat.sub_zero, Nat.mod_eq_of_lt ha] at hc
      show 1 * _ ≠ _
      rw [Int.one_mul]
      exact h3 c hc hac
  | u + 1, hu => by
    obtain ⟨s, i1, i2, i3⟩ := gst_inv hw hb ha h1 h2 h3 u (by omega)
    obtain ⟨d, hd⟩ : ∃ d, n - u = d + 1 := ⟨n - u - 1, by omega⟩
    rw [hd] at i1
    obtain ⟨r, r1, r2, ⟨r3, r4, r5, r6, r7⟩, r8⟩ := lst_step hw hb i1
    have edig : a % 4 ^ (d + 1) / 4 ^ d % 4 = a / 4 ^ d % 4 := mod_dig (Nat.lt_succ_self d)
    have emod : a % 4 ^ (d + 1) % 4 ^ d = a % 4 ^ d := Nat.mod_mod_of_dvd _ ⟨4, by rw [Nat.pow_succ]⟩
    have ed : n - 1 - u = d := by omega
    have eu : n - 1 - d = u := by omega
    rw [edig] at r1 r2 r5 r8
    rw [emod] at r2
    have hK : ∀ s', kp wt lb k n u (gst wt lb k n u).1 (gst wt lb k n u).2 s' = (ld lb s s' && decide (0 ≤ Mx wt lb k n d s' ∧ (gst wt lb k n u).2 * wt (4 * u + mk lb s') * Mx wt lb k n d s' = Mx wt lb k n n 0)) := by
      intro s'
      rw [kp_eq, i2 s', ed]
    rw [eu] at r7 r8 r2
    have hKr : kp wt lb k n u (gst wt lb k n u).1 (gst wt lb k n u).2 r = true := by
      rw [hK, r3, decide_eq_true ⟨r6, r7⟩]; rfl
    obtain ⟨b, hbp⟩ := pck_some (f := mk lb) ⟨r, show r < 2 * k + 1 by omega, hKr⟩
    obtain ⟨b1, b2⟩ := pck_spec hbp
    have b3' := pck_lt hbp
    rw [hK, Bool.and_eq_true] at b1
    have b4 := of_decide_eq_true b1.2
    have b5 := r8 b (by omega) b1.1 b4.1 b4.2
    have b6 := b2 r (by omega) hKr
    have b7 : mk lb b = a / 4 ^ d % 4 := by omega
    have b8 := stp_to hb i1.1 (show b ≤ 2 * k by omega) b1.1
    rw [b7, r1] at b8
    obtain rfl : r = b := by simpa using b8
    refine ⟨r, ?_, ?_, ?_⟩
    · rw [show n - (u + 1) = d by omega, gst, hbp]
      show Lst wt lb k n _ d r ((gst wt lb k n u).2 * wt (4 * u + mk lb r)) _
      rw [r5]; exact r2
    · intro s'
      rw [gst, hbp]; rfl
    · intro _
      rw [gst, hbp]
      refine ⟨rfl, ?_⟩
      rw [r5, dg, show n - 1 - (u + 1 - 1) = d by omega]
theorem e_gp {wt : Nat → Int} (hw : ∀ j, 0 ≤ wt j ∧ wt j ≤ 8) {lb : Nat → Nat} {k : Nat} (hb : lbk lb k) (n : Nat) (hM : 0 ≤ Mx wt lb k n n 0) : ∀ u, u < n → (gpl wt lb k n (u + 1)).isSome = true := by
  intro u hu
  obtain ⟨a, -, a2, a3, a4, a5⟩ := (mfo_mx hw hb n).2 hM
  obtain ⟨s, -, -, i3⟩ := gst_inv hw hb a2 a3 a4 a5 (u + 1) (by omega)
  rw [gpl, (i3 (by omega)).1]; rfl
theorem e_ba {wt : Nat → Int} (hw : ∀ j, 0 ≤ wt j ∧ wt j ≤ 8) {lb : Nat → Nat} {k : Nat} (hb : lbk lb k) (n : Nat) (x : Int) : baR wt lb k n x = mbaR wt lb k n x := by
  unfold baR mbaR
  obtain ⟨m1, m2⟩ := mfo_mx hw hb n
  by_cases hx : 0 ≤ x ∧ x < (n : Int)
  · rw [if_pos hx]
    by_cases h : Mx wt lb k n n 0 < 0
    · rw [if_pos h, if_pos (Or.inl (m1 h))]
    · obtain ⟨a, a1, a2, a3, a4, a5⟩ := m2 (by omega)
      obtain ⟨s, -, -, i3⟩ := gst_inv hw hb a2 a3 a4 a5 (x.toNat + 1) (by omega)
      obtain ⟨j1, j2⟩ := i3 (by omega)
      rw [if_neg h, a1, if_neg (by omega), gpl, j1, Int.toNat_natCast]
      show ((mk lb s : Nat) : Int) = _
      rw [j2]; rfl
  · rw [if_neg hx, if_pos (Or.inr hx)]
end
section
/-! THE LAW: a call on one half of the world, the invariant, the loop -/
section LC
variable {p : Program} {l : Launch} {e : Env} {R : Room} {s : State} {m : MethodId} {args : Array Value} {below : List Frame} {meth : Method} {c : Code} {H : Heap} {locs : List Loc} {cells slots : Nat} {Q : State → Prop}
variable {cc : ByteArray} {pc : Nat} {ls : Array Slot} {rest : List Value} {nL : Nat} {own : String} {A : Nat → Prop} {vs : List (Option Value)}
variable {D : va_G} {tX tY : List (ClassId × FieldType)} {y : MethodName} {bytes : ByteArray} {maxL fr lo idx ci n N : Nat} {ret : Option FieldType} {As fs : List Value} {b : Nat} {X Y : va_W} {C : String} {T : u_T} {st0 : List Value}
theorem law_call {post : Int32 → va_W → Prop} (F : fx p m meth c s args cc nL own A) (h : wh D (X ++ Y) (tX ++ tY) A s H locs) (hM : Ci l D tX y bytes maxL ret fr lo (.ref b :: As) X post)
    (hG : GoodIn lw_all (wsV own idx C y (ws_ y bytes maxL ret))) (hd : y.cls = C ∧ y.cls ≠ "java/lang/invoke/MethodHandle" ∧ y.cls ≠ "java/lang/invoke/VarHandle" ∧ (parseMethodDescriptor y.desc).map (fun d => d.parameters.length) = some n) (hn : As.length = n)
    (he : X[0]? = some (b, .inr (ci, fs))) (hc : vwCl[ci]? = some (C, T, N)) (hR : fr + 1 ≤ R.frames ∧ 8 + (maxL + 11) + lo ≤ R.locals) (hcs : cells ≤ R.cells ∧ slots ≤ R.slots) (hl : lz ls nL vs) (hst : st0 = As.reverse ++ .ref b :: rest) (hroom : (rest.map fun v => v.category).sum ≤ 8) (hdg : decode cc pc = .ok (.invokevirtual idx, 3))
    (kk : ∀ (r : Int32) (X1 : va_W) (H1 : Heap) (locs1 : List Loc), post r X1 → wh D (Y ++ X1) (tY ++ tX) A s H1 locs1 → W p l e R s m args below meth c H1 locs1 cells slots Q (F0 m (pc + 3) ls (.int r :: rest))) : W p l e R s m args below meth c H locs cells slots Q (F0 m pc ls st0) := by
  obtain ⟨hK, hP, hD, hS⟩ := h
  have gX : ∀ (k : Nat) (q : Nat × va_E), X[k]? = some q → (X ++ Y)[k]? = some q := fun k q hk => by
    rw [List.getElem?_append_left (List.getElem?_eq_some_iff.mp hk).1]; exact hk
  have gY : ∀ (k : Nat) (q : Nat × va_E), Y[k]? = some q → (X ++ Y)[X.length + k]? = some q := fun k q hk => by
    rw [List.getElem?_append_right (Nat.le_add_right _ _), Nat.add_sub_cancel_left]; exact hk
  have hPX : va_P D vwCl X H := fun k q hk => hP k q (gX k q hk)
  have hPY : va_P D vwCl Y H := fun k q hk => hP _ q (gY k q hk)
  have hDX : va_D A X := ⟨fun i j p q hi hj e1 => hD.1 i j p q (gX i p hi) (gX j q hj) e1, fun k q hk => hD.2 k q (gX k q hk)⟩
  have hDY : va_D A Y := ⟨fun i j p q hi hj e1 => by have := hD.1 _ _ p q (gY i p hi) (gY j q hj) e1; omega, fun k q hk => hD.2 _ q (gY k q hk)⟩
  have hKX : va_K D vwCl tX s := ⟨hK.1, fun k q hk => hK.2 k q (by rw [List.getElem?_append_left (List.getElem?_eq_some_iff.mp hk).1]; exact hk)⟩
  have hKY : va_K D vwCl tY s := ⟨hK.1, fun k q hk => hK.2 (tX.length + k) q (by rw [List.getElem?_append_right (Nat.le_add_right _ _), Nat.add_sub_cancel_left]; exact hk)⟩
  have apart : ∀ (k : Nat) (q : Nat × va_E), Y[k]? = some q → q.1 < H.size ∧ ¬ va_A X H.size q.1 := by
    intro k q hk
    have hlt := (hPY k q hk).lt
    refine ⟨hlt, fun hz => ?_⟩
    rcases hz with ⟨k2, e2, h2⟩ | hz
    · have := hD.1 k2 (X.length + k) (q.1, e2) q (gX k2 _ h2) (gY k q hk) rfl
      have := (List.getElem?_eq_some_iff.mp h2).1
      omega
    · omega
  have hF : ∀ q, va_A X H.size q → A q := by
    intro q hq
    rcases hq with ⟨k, e1, hk⟩ | hq
    · exact hDX.2 k (q, e1) hk
    · exact F.2.2.2.2.2.2 q (Nat.le_trans hS.1 hq)
  refine va_calli (va_runV (As := As) (rest := rest) (b := b) ⟨F.1, F.2.1, F.2.2.1, F.2.2.2.1, F.2.2.2.2.1⟩ (hM H.size) (cwV n F.2.2.2.2.1 hG rfl rfl rfl hd hR) ⟨cPc_blind, va_recv hKX hPX hc he, fun U hU hW => ⟨rfl, by rw [hU], by rw [hU]; exact hPX, va_K.moved hW.alike hKX, hDX.weaken (fun _ _ _ _ => trivial)⟩⟩ rfl hn hl.1 hst (lv_room hroom) hdg ⟨hcs.1, hcs.2⟩) hS (fun q _ hq => hF q hq) hF (fun r u t H1 locs1 ht hvm hw hB hz1 hk1 hS => ?_)
  obtain ⟨hP1, hK1, hD1⟩ := hB
  rw [ht] at hP1
  refine kk r u H1 locs1 hw ⟨hKY.app (va_K.moved hvm.symm hK1), (hPY.kept (fun k q hk => hk1 q.1 (apart k q hk).1 (apart k q hk).2)).app hP1, va_D.app hDY (hD1.weaken (fun _ _ _ hq => hF _ hq)) (fun i j x z hx hz2 e1 => ?_), hS⟩
  exact (apart i x hx).2 (by rw [e1]; exact hD1.2 j z hz2)
theorem law_ld {L : Nat} {xs : Nat → Int32} (F : fx p m meth c s args cc nL own (fun q : Nat => s.heap.size ≤ q)) (hX : va_X b L xs s s.heap) (hbl : b < s.heap.size) (hS : va_S (fun q : Nat => s.heap.size ≤ q) s.heap H locs) (hL : L ≤ 256) {a : Int} (j : Nat) (hdg : decode cc pc = .ok (.iaload, 1)) (kk : W p l e R s m args below meth c H locs cells slots Q (F0 m (pc + 1) ls (.int (zI (xs j).toInt) :: rest))) (hj : j < L := by omega) (ha : a = (j : Int) := by omega) : W p l e R s m args below meth c H locs cells slots Q (F0 m pc ls (.int (zI a) :: .ref b :: rest)) := by
  subst ha
  refine va_sld (A := fun q : Nat => s.heap.size ≤ q) F.1 F.2.1 hX hbl (Nat.not_le.mpr hbl) hS (zI_in hj (by omega)) hdg ?_
  rw [zI_clamp (j := j) (by omega)]
  have e1 : zI (xs j).toInt = xs j := Int32.ofInt_toInt (xs j)
  rw [e1] at kk
  exact kk
end LC
theorem i32_in (x : Int32) : -2147483648 ≤ x.toInt ∧ x.toInt < 2147483648 := by
  have h1 := Int32.le_toInt x
  have h2 := Int32.toInt_lt x
  omega
/-- what holds of both between two calls -/
def Inv (n : Nat) (wt : Nat → Int) (k : Nat) (lb : Nat → Nat) (pl : Int) : Prop := n ≤ 6 ∧ k ≤ 4 ∧ (∀ j, 0 ≤ wt j ∧ wt j ≤ 8) ∧ (∀ j, lb j ≤ 3) ∧ (∀ j, j < k → 1 ≤ lb j) ∧ (pl = 0 ∨ pl = 1)
theorem up1_in {wt : Nat → Int} {k : Nat} {x : Int} (hw : ∀ j, 0 ≤ wt j ∧ wt j ≤ 8) (hx : 0 ≤ x ∧ x ≤ 8) : ∀ j, 0 ≤ up1 wt k x j ∧ up1 wt k x j ≤ 8 := by
  intro j; unfold up1; split
  · exact hx
  · exact hw j
theorem frW_in {wt : Nat → Int} {n : Nat} {x : Int} (hw : ∀ j, 0 ≤ wt j ∧ wt j ≤ 8) : ∀ j, 0 ≤ frW n wt x j ∧ frW n wt x j ≤ 8 := by
  unfold frW
  by_cases h : okd x ∧ n < 6
  · rw [if_pos h]
    have h1 := h.1
    exact up1_in (up1_in (up1_in (up1_in hw (by omega)) (by omega)) (by omega)) (by omega)
  · rw [if_neg h]; exact hw
theorem frN_le {n : Nat} {x : Int} (hn : n ≤ 6) : frN n x ≤ 6 := by
  unfold frN; split
  · next h => omega
  · exact hn
theorem wgW_in {wt : Nat → Int} {n : Nat} {x y z : Int} (hw : ∀ j, 0 ≤ wt j ∧ wt j ≤ 8) : ∀ j, 0 ≤ wgW n wt x y z j ∧ wgW n wt x y z j ≤ 8 := by
  unfold wgW
  by_cases h : wgC n x y z
  · rw [if_pos h]; exact up1_in hw h.2.2
  · rw [if_neg h]; exact hw
theorem wr_ok {k : Nat} {lb : Nat → Nat} {x : Int} (hk : k ≤ 4) (hb : ∀ j, lb j ≤ 3) (h1 : ∀ j, j < k → 1 ≤ lb j) : wrK k x ≤ 4 ∧ (∀ j, wrL k lb x j ≤ 3) ∧ ∀ j, j < wrK k x → 1 ≤ wrL k lb x j := by
  unfold wrK wrL
  by_cases h : (1 ≤ x ∧ x ≤ 3) ∧ k < 4
  · rw [if_pos h, if_pos h]
    refine ⟨by omega, up1_le hb (by omega), fun j hj => ?_⟩
    unfold up1; split
    · omega
    · exact h1 j (by omega)
  · rw [if_neg h, if_neg h]
    exact ⟨hk, hb, h1⟩
theorem bn_ok {k : Nat} {lb : Nat → Nat} (hb : ∀ j, lb j ≤ 3) (h1 : ∀ j, j < k → 1 ≤ lb j) : (∀ j, bnL k lb j ≤ 3) ∧ ∀ j, j < k → 1 ≤ bnL k lb j := by
  unfold bnL
  by_cases h : k < 4
  · rw [if_pos h]
    refine ⟨up1_le hb (by omega), fun j hj => ?_⟩
    rw [up1_n (by omega)]; exact h1 j hj
  · rw [if_neg h]; exact ⟨hb, h1⟩
set_option maxHeartbeats 8000000 in
set_option maxRecDepth 100000 in
/-- the law's loop at its head -/
theorem law_loop {p : Program} {e : Env} {s : State} {m : MethodId} {below : List Frame} {meth : Method} {c : Code} (l : Launch) {b L : Nat} {xs : Nat → Int32} (hL : L ≤ 256) (C0 : lw_At p s m meth c b L xs) (D : va_G) (ad : Nat → Nat) (ca : Nat → ClassId) (bd : Nat → Nat) (cb : Nat → ClassId) : ∀ (f i : Nat) (n : Nat) (wt : Nat → Int) (k : Nat) (lb : Nat → Nat) (pl : Int) (up on bo : Nat → Int) (pa rd : Nat → Nat) (H : Heap) (locs : List Loc) (ls : Array Slot), L < i + f → i ≤ 300 → Inv n wt k lb pl → wh D (dw ad ca n wt k lb pl up on bo ++ mw bd cb n wt k lb pa rd) (dt ca ++ mt cb) (fun q : Nat => s.heap.size ≤ q) s H locs → lz ls 4 [some (.ref b), some (.ref (ad 0)), some (.ref (bd 0)), some (.int (zI i))] → W p l e room_1 s m #[Value.ref b] below meth c H locs 11 244 (lw_Z below #[Value.ref b] s) (F0 m 18 ls []) := by
  obtain ⟨hx, hb, hr, hml, hown, hts, hX, hbl, hlocks, hgv⟩ := id C0
  have F : fx p m meth c s #[Value.ref b] cL_law 4 R_law (fun q : Nat => s.heap.size ≤ q) := ⟨hx, hb, hml, hown, fun w hw => hts w (lw_all_tbl hw), hlocks, fun _ h => h⟩
  intro f
  induction f with
  | zero =>
    intro i n wt k lb pl up on bo pa rd H locs ls hf hi hI h hl
    refine z_iload_n F hl dL_law_18 rfl ?_
    refine z_aload_n F hl dL_law_19 rfl ?_
    refine va_slen (A := fun q : Nat => s.heap.size ≤ q) hx hb hX hbl (Nat.not_le.mpr hbl) h.2.2.2 dL_law_20 ?_
    rw [show Int32.ofNat L = zI (L : Int) from (zI_nat L).symm]
    refine z_iconst F dL_law_21 ?_
    refine z_isub F dL_law_22 ?_
    refine z_icmp_gt F 389 dL_law_23 (fun c23 => ?_) (fun c23 => ?_)
    · refine lv_iconst (v := 1) hx hb dL_law_389 (by decide) ?_
      refine va_forget (fun q hq => h.2.2.2.2.2 q hq) ?_
      refine W.widen (k := 600000) (n := 7290000) (by decide) (by decide) ?_
      exact lw_ret hx hb hr hlocks dL_law_390
    · exact absurd c23 (by omega)
  | succ f ih =>
    intro i n wt k lb pl up on bo pa rd H locs ls hf hi hI h hl
    refine z_iload_n F hl dL_law_18 rfl ?_
    refine z_aload_n F hl dL_law_19 rfl ?_
    refine va_slen (A := fun q : Nat => s.heap.size ≤ q) hx hb hX hbl (Nat.not_le.mpr hbl) h.2.2.2 dL_law_20 ?_
    rw [show Int32.ofNat L = zI (L : Int) from (zI_nat L).symm]
    refine z_iconst F dL_law_21 ?_
    refine z_isub F dL_law_22 ?_
    refine z_icmp_gt F 389 dL_law_23 (fun c23 => ?_) (fun c23 => ?_)
    · refine lv_iconst (v := 1) hx hb dL_law_389 (by decide) ?_
      refine va_forget (fun q hq => h.2.2.2.2.2 q hq) ?_
      refine W.widen (k := 600000) (n := 7290000) (by decide) (by decide) ?_
      exact lw_ret hx hb hr hlocks dL_law_390
    · obtain ⟨hn, hk, hw, hb3, hb1, hp⟩ := id hI
      have hbk : lbk lb k := ⟨hb3, hb1⟩
      have next : ∀ (n : Nat) (wt : Nat → Int) (k : Nat) (lb : Nat → Nat) (pl : Int) (up on bo : Nat → Int) (pa rd : Nat → Nat) (H : Heap) (locs : List Loc), Inv n wt k lb pl → wh D (dw ad ca n wt k lb pl up on bo ++ mw bd cb n wt k lb pa rd) (dt ca ++ mt cb) (fun q : Nat => s.heap.size ≤ q) s H locs → W p l e room_1 s m #[Value.ref b] below meth c H locs 11 244 (lw_Z below #[Value.ref b] s) (F0 m 383 ls []) := by
        intro n wt k lb pl up on bo pa rd H locs hI h
        refine z_iinc F hl ((i + 4 : Nat) : Int) dL_law_383 rfl (fun ls hl => ?_)
        refine z_goto F 18 dL_law_386 ?_
        exact ih (i + 4) n wt k lb pl up on bo pa rd H locs ls (by omega) (by omega) hI h hl
      refine z_aload_n F hl dL_law_26 rfl ?_
      refine z_iload_n F hl dL_law_27 rfl ?_
      refine law_ld F hX hbl h.2.2.2 hL i dL_law_28 ?_
      refine lv_bipush (v := 15) hx hb dL_law_29 (by decide) ?_
      refine lv_iand hx hb dL_law_31 ?_
      obtain ⟨j, hj, ej⟩ := pk_andE (zI (xs i).toInt) (m := 15) 4 (by decide)
      rw [ej]
      obtain rfl | rfl | rfl | rfl | rfl | rfl | rfl | rfl | rfl | rfl | rfl | rfl | rfl | rfl | rfl | rfl : j = 0 ∨ j = 1 ∨ j = 2 ∨ j = 3 ∨ j = 4 ∨ j = 5 ∨ j = 6 ∨ j = 7 ∨ j = 8 ∨ j = 9 ∨ j = 10 ∨ j = 11 ∨ j = 12 ∨ j = 13 ∨ j = 14 ∨ j = 15 := by omega
      · refine lv_tableIn (off := 76) (tgt := 108) hx hb dL_law_32 (by decide) (by decide) (by decide) (by decide) ?_
        refine z_aload_n F hl dL_law_108 rfl ?_
        refine z_aload_n F hl dL_law_109 rfl ?_
        refine z_iload_n F hl dL_law_110 rfl ?_
        refine z_iconst F dL_law_111 ?_
        refine z_iadd F dL_law_112 ?_
        refine law_ld F hX hbl h.2.2.2 hL (i + 1) dL_law_113 ?_
        refine law_call (ci := 0) (C := RX0) (T := TX0) (N := 8) (n := 1) (As := [.int (zI (xs (i + 1)).toInt)]) F h (mX0_frame l D ad ca n wt k lb pl up on bo ((xs (i + 1)).toInt) (i32_in _) hn) (lw_V q56 q57 q58 q19 q59) (by decide +kernel) rfl rfl rfl ⟨by decide, by decide⟩ ⟨by decide, by decide⟩ hl rfl (Nat.le_of_ble_eq_true rfl) dL_law_114 (fun rX0 wX0 H locs hq h => ?_)
        obtain ⟨rfl, rfl⟩ := hq
        refine z_aload_n F hl dL_law_117 rfl ?_
        refine z_aload_n F hl dL_law_118 rfl ?_
        refine z_iload_n F hl dL_law_119 rfl ?_
        refine z_iconst F dL_law_120 ?_
        refine z_iadd F dL_law_121 ?_
        refine law_ld F hX hbl h.2.2.2 hL (i + 1) dL_law_122 ?_
        refine law_call (ci := 1) (C := RX1) (T := TX1) (N := 6) (n := 1) (As := [.int (zI (xs (i + 1)).toInt)]) F h (mX1_frame l D bd cb n wt k lb pa rd ((xs (i + 1)).toInt) (i32_in _) hn) (lw_V q192 q193 q194 q20 q195) (by decide +kernel) rfl rfl rfl ⟨by decide, by decide⟩ ⟨by decide, by decide⟩ hl rfl (Nat.le_of_ble_eq_true rfl) dL_law_123 (fun rX1 wX1 H locs hq h => ?_)
        obtain ⟨rfl, rfl⟩ := hq
        refine lv_icmp_eq (tgt := 383) hx hb dL_law_126 (by decide) (fun _ => ?_) (fun cq => ?_)
        · exact next (frN n ((xs (i + 1)).toInt)) (frW n wt ((xs (i + 1)).toInt)) k lb pl up on bo pa rd H locs ⟨frN_le hn, hk, frW_in hw, hb3, hb1, hp⟩ h
        · exact absurd rfl cq
      · refine lv_tableIn (off := 99) (tgt := 131) hx hb dL_law_32 (by decide) (by decide) (by decide) (by decide) ?_
        refine z_aload_n F hl dL_law_131 rfl ?_
        refine law_call (ci := 0) (C := RX0) (T := TX0) (N := 8) (n := 0) (As := []) F h (mX0_dropFrame l D ad ca n wt k lb pl up on bo  hn) (lw_V q60 q61 q62 q19 q63) (by decide +kernel) rfl rfl rfl ⟨by decide, by decide⟩ ⟨by decide, by decide⟩ hl rfl (Nat.le_of_ble_eq_true rfl) dL_law_132 (fun rX0 wX0 H locs hq h => ?_)
        obtain ⟨rfl, rfl⟩ := hq
        refine z_aload_n F hl dL_law_135 rfl ?_
        refine law_call (ci := 1) (C := RX1) (T := TX1) (N := 6) (n := 0) (As := []) F h (mX1_dropFrame l D bd cb n wt k lb pa rd  hn) (lw_V q196 q197 q198 q20 q199) (by decide +kernel) rfl rfl rfl ⟨by decide, by decide⟩ ⟨by decide, by decide⟩ hl rfl (Nat.le_of_ble_eq_true rfl) dL_law_136 (fun rX1 wX1 H locs hq h => ?_)
        obtain ⟨rfl, rfl⟩ := hq
        refine lv_icmp_eq (tgt := 383) hx hb dL_law_139 (by decide) (fun _ => ?_) (fun cq => ?_)
        · exact next (n - 1) wt k lb pl up on bo pa rd H locs ⟨by omega, hk, hw, hb3, hb1, hp⟩ h
        · exact absurd rfl cq
      · refine lv_tableIn (off := 112) (tgt := 144) hx hb dL_law_32 (by decide) (by decide) (by decide) (by decide) ?_
        refine z_aload_n F hl dL_law_144 rfl ?_
        refine z_aload_n F hl dL_law_145 rfl ?_
        refine z_iload_n F hl dL_law_146 rfl ?_
        refine z_iconst F dL_law_147 ?_
        refine z_iadd F dL_law_148 ?_
        refine law_ld F hX hbl h.2.2.2 hL (i + 1) dL_law_149 ?_
        refine z_aload_n F hl dL_law_150 rfl ?_
        refine z_iload_n F hl dL_law_151 rfl ?_
        refine z_iconst F dL_law_152 ?_
        refine z_iadd F dL_law_153 ?_
        refine law_ld F hX hbl h.2.2.2 hL (i + 2) dL_law_154 ?_
        refine z_aload_n F hl dL_law_155 rfl ?_
        refine z_iload_n F hl dL_law_156 rfl ?_
        refine z_iconst F dL_law_157 ?_
        refine z_iadd F dL_law_158 ?_
        refine law_ld F hX hbl h.2.2.2 hL (i + 3) dL_law_159 ?_
        refine law_call (ci := 0) (C := RX0) (T := TX0) (N := 8) (n := 3) (As := [.int (zI (xs (i + 1)).toInt), .int (zI (xs (i + 2)).toInt), .int (zI (xs (i + 3)).toInt)]) F h (mX0_weigh l D ad ca n wt k lb pl up on bo ((xs (i + 1)).toInt) ((xs (i + 2)).toInt) ((xs (i + 3)).toInt) (i32_in _) (i32_in _) (i32_in _) hn) (lw_V q64 q65 q66 q19 q67) (by decide +kernel) rfl rfl rfl ⟨by decide, by decide⟩ ⟨by decide, by decide⟩ hl rfl (Nat.le_of_ble_eq_true rfl) dL_law_160 (fun rX0 wX0 H locs hq h => ?_)
        obtain ⟨rfl, rfl⟩ := hq
        refine z_aload_n F hl dL_law_163 rfl ?_
        refine z_aload_n F hl dL_law_164 rfl ?_
        refine z_iload_n F hl dL_law_165 rfl ?_
        refine z_iconst F dL_law_166 ?_
        refine z_iadd F dL_law_167 ?_
        refine law_ld F hX hbl h.2.2.2 hL (i + 1) dL_law_168 ?_
        refine z_aload_n F hl dL_law_169 rfl ?_
        refine z_iload_n F hl dL_law_170 rfl ?_
        refine z_iconst F dL_law_171 ?_
        refine z_iadd F dL_law_172 ?_
        refine law_ld F hX hbl h.2.2.2 hL (i + 2) dL_law_173 ?_
        refine z_aload_n F hl dL_law_174 rfl ?_
        refine z_iload_n F hl dL_law_175 rfl ?_
        refine z_iconst F dL_law_176 ?_
        refine z_iadd F dL_law_177 ?_
        refine law_ld F hX hbl h.2.2.2 hL (i + 3) dL_law_178 ?_
        refine law_call (ci := 1) (C := RX1) (T := TX1) (N := 6) (n := 3) (As := [.int (zI (xs (i + 1)).toInt), .int (zI (xs (i + 2)).toInt), .int (zI (xs (i + 3)).toInt)]) F h (mX1_weigh l D bd cb n wt k lb pa rd ((xs (i + 1)).toInt) ((xs (i + 2)).toInt) ((xs (i + 3)).toInt) (i32_in _) (i32_in _) (i32_in _) hn) (lw_V q200 q201 q202 q20 q203) (by decide +kernel) rfl rfl rfl ⟨by decide, by decide⟩ ⟨by decide, by decide⟩ hl rfl (Nat.le_of_ble_eq_true rfl) dL_law_179 (fun rX1 wX1 H locs hq h => ?_)
        obtain ⟨rfl, rfl⟩ := hq
        refine lv_icmp_eq (tgt := 383) hx hb dL_law_182 (by decide) (fun _ => ?_) (fun cq => ?_)
        · exact next n (wgW n wt ((xs (i + 1)).toInt) ((xs (i + 2)).toInt) ((xs (i + 3)).toInt)) k lb pl up on bo pa rd H locs ⟨hn, hk, wgW_in hw, hb3, hb1, hp⟩ h
        · exact absurd rfl cq
      · refine lv_tableIn (off := 155) (tgt := 187) hx hb dL_law_32 (by decide) (by decide) (by decide) (by decide) ?_
        refine z_aload_n F hl dL_law_187 rfl ?_
        refine z_aload_n F hl dL_law_188 rfl ?_
        refine z_iload_n F hl dL_law_189 rfl ?_
        refine z_iconst F dL_law_190 ?_
        refine z_iadd F dL_law_191 ?_
        refine law_ld F hX hbl h.2.2.2 hL (i + 1) dL_law_192 ?_
        refine law_call (ci := 0) (C := RX0) (T := TX0) (N := 8) (n := 1) (As := [.int (zI (xs (i + 1)).toInt)]) F h (mX0_write l D ad ca n wt k lb pl up on bo ((xs (i + 1)).toInt) (i32_in _) hk) (lw_V q75 q76 q77 q19 q78) (by decide +kernel) rfl rfl rfl ⟨by decide, by decide⟩ ⟨by decide, by decide⟩ hl rfl (Nat.le_of_ble_eq_true rfl) dL_law_193 (fun rX0 wX0 H locs hq h => ?_)
        obtain ⟨rfl, rfl⟩ := hq
        refine z_aload_n F hl dL_law_196 rfl ?_
        refine z_aload_n F hl dL_law_197 rfl ?_
        refine z_iload_n F hl dL_law_198 rfl ?_
        refine z_iconst F dL_law_199 ?_
        refine z_iadd F dL_law_200 ?_
        refine law_ld F hX hbl h.2.2.2 hL (i + 1) dL_law_201 ?_
        refine law_call (ci := 1) (C := RX1) (T := TX1) (N := 6) (n := 1) (As := [.int (zI (xs (i + 1)).toInt)]) F h (mX1_write l D bd cb n wt k lb pa rd ((xs (i + 1)).toInt) (i32_in _) hk) (lw_V q212 q213 q214 q20 q215) (by decide +kernel) rfl rfl rfl ⟨by decide, by decide⟩ ⟨by decide, by decide⟩ hl rfl (Nat.le_of_ble_eq_true rfl) dL_law_202 (fun rX1 wX1 H locs hq h => ?_)
        obtain ⟨rfl, rfl⟩ := hq
        refine lv_icmp_eq (tgt := 383) hx hb dL_law_205 (by decide) (fun _ => ?_) (fun cq => ?_)
        · exact next n wt (wrK k ((xs (i + 1)).toInt)) (wrL k lb ((xs (i + 1)).toInt)) pl up on bo pa rd H locs ⟨hn, (wr_ok hk hb3 hb1).1, hw, (wr_ok hk hb3 hb1).2.1, (wr_ok hk hb3 hb1).2.2, hp⟩ h
        · exact absurd rfl cq
      · refine lv_tableIn (off := 178) (tgt := 210) hx hb dL_law_32 (by decide) (by decide) (by decide) (by decide) ?_
        refine z_aload_n F hl dL_law_210 rfl ?_
        refine law_call (ci := 0) (C := RX0) (T := TX0) (N := 8) (n := 0) (As := []) F h (mX0_rub l D ad ca n wt k lb pl up on bo  hk) (lw_V q79 q80 q81 q19 q82) (by decide +kernel) rfl rfl rfl ⟨by decide, by decide⟩ ⟨by decide, by decide⟩ hl rfl (Nat.le_of_ble_eq_true rfl) dL_law_211 (fun rX0 wX0 H locs hq h => ?_)
        obtain ⟨rfl, rfl⟩ := hq
        refine z_aload_n F hl dL_law_214 rfl ?_
        refine law_call (ci := 1) (C := RX1) (T := TX1) (N := 6) (n := 0) (As := []) F h (mX1_rub l D bd cb n wt k lb pa rd  hk) (lw_V q216 q217 q218 q20 q219) (by decide +kernel) rfl rfl rfl ⟨by decide, by decide⟩ ⟨by decide, by decide⟩ hl rfl (Nat.le_of_ble_eq_true rfl) dL_law_215 (fun rX1 wX1 H locs hq h => ?_)
        obtain ⟨rfl, rfl⟩ := hq
        refine lv_icmp_eq (tgt := 383) hx hb dL_law_218 (by decide) (fun _ => ?_) (fun cq => ?_)
        · exact next n wt (k - 1) lb pl up on bo pa rd H locs ⟨hn, by omega, hw, hb3, fun j hj => hb1 j (by omega), hp⟩ h
        · exact absurd rfl cq
      · refine lv_tableIn (off := 191) (tgt := 223) hx hb dL_law_32 (by decide) (by decide) (by decide) (by decide) ?_
        refine z_aload_n F hl dL_law_223 rfl ?_
        refine law_call (ci := 0) (C := RX0) (T := TX0) (N := 8) (n := 0) (As := []) F h (mX0_frames l D ad ca n wt k lb pl up on bo  ) (lw_V q83 q84 q85 q19 q86) (by decide +kernel) rfl rfl rfl ⟨by decide, by decide⟩ ⟨by decide, by decide⟩ hl rfl (Nat.le_of_ble_eq_true rfl) dL_law_224 (fun rX0 wX0 H locs hq h => ?_)
        obtain ⟨rfl, rfl⟩ := hq
        refine z_aload_n F hl dL_law_227 rfl ?_
        refine law_call (ci := 1) (C := RX1) (T := TX1) (N := 6) (n := 0) (As := []) F h (mX1_frames l D bd cb n wt k lb pa rd  ) (lw_V q220 q221 q222 q20 q223) (by decide +kernel) rfl rfl rfl ⟨by decide, by decide⟩ ⟨by decide, by decide⟩ hl rfl (Nat.le_of_ble_eq_true rfl) dL_law_228 (fun rX1 wX1 H locs hq h => ?_)
        obtain ⟨rfl, rfl⟩ := hq
        refine lv_icmp_eq (tgt := 383) hx hb dL_law_231 (by decide) (fun _ => ?_) (fun cq => ?_)
        · exact next n wt k lb pl up on bo pa rd H locs ⟨hn, hk, hw, hb3, hb1, hp⟩ h
        · exact absurd rfl cq
      · refine lv_tableIn (off := 204) (tgt := 236) hx hb dL_law_32 (by decide) (by decide) (by decide) (by decide) ?_
        refine z_aload_n F hl dL_law_236 rfl ?_
        refine law_call (ci := 0) (C := RX0) (T := TX0) (N := 8) (n := 0) (As := []) F h (mX0_length l D ad ca n wt k lb pl up on bo  ) (lw_V q87 q88 q89 q19 q90) (by decide +kernel) rfl rfl rfl ⟨by decide, by decide⟩ ⟨by decide, by decide⟩ hl rfl (Nat.le_of_ble_eq_true rfl) dL_law_237 (fun rX0 wX0 H locs hq h => ?_)
        obtain ⟨rfl, rfl⟩ := hq
        refine z_aload_n F hl dL_law_240 rfl ?_
        refine law_call (ci := 1) (C := RX1) (T := TX1) (N := 6) (n := 0) (As := []) F h (mX1_length l D bd cb n wt k lb pa rd  ) (lw_V q224 q225 q226 q20 q227) (by decide +kernel) rfl rfl rfl ⟨by decide, by decide⟩ ⟨by decide, by decide⟩ hl rfl (Nat.le_of_ble_eq_true rfl) dL_law_241 (fun rX1 wX1 H locs hq h => ?_)
        obtain ⟨rfl, rfl⟩ := hq
        refine lv_icmp_eq (tgt := 383) hx hb dL_law_244 (by decide) (fun _ => ?_) (fun cq => ?_)
        · exact next n wt k lb pl up on bo pa rd H locs ⟨hn, hk, hw, hb3, hb1, hp⟩ h
        · exact absurd rfl cq
      · refine lv_tableIn (off := 217) (tgt := 249) hx hb dL_law_32 (by decide) (by decide) (by decide) (by decide) ?_
        refine z_aload_n F hl dL_law_249 rfl ?_
        refine law_call (ci := 0) (C := RX0) (T := TX0) (N := 8) (n := 0) (As := []) F h (mX0_total l D ad ca n wt k lb pl up on bo  hn hk hb3) (lw_V q91 q92 q93 q19 q94) (by decide +kernel) rfl rfl rfl ⟨by decide, by decide⟩ ⟨by decide, by decide⟩ hl rfl (Nat.le_of_ble_eq_true rfl) dL_law_250 (fun rX0 wX0 H locs hq h => ?_)
        obtain ⟨up', rfl, rfl⟩ := hq
        refine z_aload_n F hl dL_law_253 rfl ?_
        refine law_call (ci := 1) (C := RX1) (T := TX1) (N := 6) (n := 0) (As := []) F h (mX1_total l D bd cb n wt k lb pa rd  hn hk hb3) (lw_V q228 q229 q230 q20 q231) (by decide +kernel) rfl rfl rfl ⟨by decide, by decide⟩ ⟨by decide, by decide⟩ hl rfl (Nat.le_of_ble_eq_true rfl) dL_law_254 (fun rX1 wX1 H locs hq h => ?_)
        obtain ⟨pa', rd', rfl, rfl⟩ := hq
        refine lv_icmp_eq (tgt := 383) hx hb dL_law_257 (by decide) (fun _ => ?_) (fun cq => ?_)
        · exact next n wt k lb 0 up' on bo pa' rd' H locs ⟨hn, hk, hw, hb3, hb1, Or.inl rfl⟩ h
        · exact absurd (congrArg zI (e_tot hbk wt n)) cq
      · refine lv_tableIn (off := 230) (tgt := 262) hx hb dL_law_32 (by decide) (by decide) (by decide) (by decide) ?_
        refine z_aload_n F hl dL_law_262 rfl ?_
        refine law_call (ci := 0) (C := RX0) (T := TX0) (N := 8) (n := 0) (As := []) F h (mX0_paths l D ad ca n wt k lb pl up on bo  hn hk hb3) (lw_V q119 q120 q121 q19 q122) (by decide +kernel) rfl rfl rfl ⟨by decide, by decide⟩ ⟨by decide, by decide⟩ hl rfl (Nat.le_of_ble_eq_true rfl) dL_law_263 (fun rX0 wX0 H locs hq h => ?_)
        obtain ⟨up', rfl, rfl⟩ := hq
        refine z_aload_n F hl dL_law_266 rfl ?_
        refine law_call (ci := 1) (C := RX1) (T := TX1) (N := 6) (n := 0) (As := []) F h (mX1_paths l D bd cb n wt k lb pa rd  hn hk hb3) (lw_V q248 q249 q250 q20 q251) (by decide +kernel) rfl rfl rfl ⟨by decide, by decide⟩ ⟨by decide, by decide⟩ hl rfl (Nat.le_of_ble_eq_true rfl) dL_law_267 (fun rX1 wX1 H locs hq h => ?_)
        obtain ⟨pa', rd', rfl, rfl⟩ := hq
        refine lv_icmp_eq (tgt := 383) hx hb dL_law_270 (by decide) (fun _ => ?_) (fun cq => ?_)
        · exact next n wt k lb 1 up' on bo pa' rd' H locs ⟨hn, hk, hw, hb3, hb1, Or.inr rfl⟩ h
        · exact absurd (congrArg zI (e_tot hbk (fun _ => 1) n)) cq
      · refine lv_tableIn (off := 243) (tgt := 275) hx hb dL_law_32 (by decide) (by decide) (by decide) (by decide) ?_
        refine z_aload_n F hl dL_law_275 rfl ?_
        refine law_call (ci := 0) (C := RX0) (T := TX0) (N := 8) (n := 0) (As := []) F h (mX0_best l D ad ca n wt k lb pl up on bo  hn hk hb3 hw) (lw_V q123 q124 q125 q19 q126) (by decide +kernel) rfl rfl rfl ⟨by decide, by decide⟩ ⟨by decide, by decide⟩ hl rfl (Nat.le_of_ble_eq_true rfl) dL_law_276 (fun rX0 wX0 H locs hq h => ?_)
        obtain ⟨on', bo', rfl, rfl⟩ := hq
        refine z_aload_n F hl dL_law_279 rfl ?_
        refine law_call (ci := 1) (C := RX1) (T := TX1) (N := 6) (n := 0) (As := []) F h (mX1_best l D bd cb n wt k lb pa rd  hn hk hb3 hw) (lw_V q252 q253 q254 q20 q255) (by decide +kernel) rfl rfl rfl ⟨by decide, by decide⟩ ⟨by decide, by decide⟩ hl rfl (Nat.le_of_ble_eq_true rfl) dL_law_280 (fun rX1 wX1 H locs hq h => ?_)
        obtain ⟨pa', rd', rfl, rfl⟩ := hq
        refine lv_icmp_eq (tgt := 383) hx hb dL_law_283 (by decide) (fun _ => ?_) (fun cq => ?_)
        · exact next n wt k lb 0 up on' bo' pa' rd' H locs ⟨hn, hk, hw, hb3, hb1, Or.inl rfl⟩ h
        · exact absurd (congrArg zI (e_best hw hbk n)) cq
      · refine lv_tableIn (off := 256) (tgt := 288) hx hb dL_law_32 (by decide) (by decide) (by decide) (by decide) ?_
        refine z_aload_n F hl dL_law_288 rfl ?_
        refine z_aload_n F hl dL_law_289 rfl ?_
        refine z_iload_n F hl dL_law_290 rfl ?_
        refine z_iconst F dL_law_291 ?_
        refine z_iadd F dL_law_292 ?_
        refine law_ld F hX hbl h.2.2.2 hL (i + 1) dL_law_293 ?_
        refine z_aload_n F hl dL_law_294 rfl ?_
        refine z_iload_n F hl dL_law_295 rfl ?_
        refine z_iconst F dL_law_296 ?_
        refine z_iadd F dL_law_297 ?_
        refine law_ld F hX hbl h.2.2.2 hL (i + 2) dL_law_298 ?_
        refine law_call (ci := 0) (C := RX0) (T := TX0) (N := 8) (n := 2) (As := [.int (zI (xs (i + 1)).toInt), .int (zI (xs (i + 2)).toInt)]) F h (mX0_through l D ad ca n wt k lb pl up on bo ((xs (i + 1)).toInt) ((xs (i + 2)).toInt) (i32_in _) (i32_in _) hn hk hb3 hp hw) (lw_V q139 q140 q141 q19 q142) (by decide +kernel) rfl rfl rfl ⟨by decide, by decide⟩ ⟨by decide, by decide⟩ hl rfl (Nat.le_of_ble_eq_true rfl) dL_law_299 (fun rX0 wX0 H locs hq h => ?_)
        obtain ⟨pl', up', on', bo', rfl, rfl, hpl⟩ := hq
        refine z_aload_n F hl dL_law_302 rfl ?_
        refine z_aload_n F hl dL_law_303 rfl ?_
        refine z_iload_n F hl dL_law_304 rfl ?_
        refine z_iconst F dL_law_305 ?_
        refine z_iadd F dL_law_306 ?_
        refine law_ld F hX hbl h.2.2.2 hL (i + 1) dL_law_307 ?_
        refine z_aload_n F hl dL_law_308 rfl ?_
        refine z_iload_n F hl dL_law_309 rfl ?_
        refine z_iconst F dL_law_310 ?_
        refine z_iadd F dL_law_311 ?_
        refine law_ld F hX hbl h.2.2.2 hL (i + 2) dL_law_312 ?_
        refine law_call (ci := 1) (C := RX1) (T := TX1) (N := 6) (n := 2) (As := [.int (zI (xs (i + 1)).toInt), .int (zI (xs (i + 2)).toInt)]) F h (mX1_through l D bd cb n wt k lb pa rd ((xs (i + 1)).toInt) ((xs (i + 2)).toInt) (i32_in _) (i32_in _) hn hk hb3) (lw_V q260 q261 q262 q20 q263) (by decide +kernel) rfl rfl rfl ⟨by decide, by decide⟩ ⟨by decide, by decide⟩ hl rfl (Nat.le_of_ble_eq_true rfl) dL_law_313 (fun rX1 wX1 H locs hq h => ?_)
        obtain ⟨pa', rd', rfl, rfl⟩ := hq
        refine lv_icmp_eq (tgt := 383) hx hb dL_law_316 (by decide) (fun _ => ?_) (fun cq => ?_)
        · exact next n wt k lb pl' up' on' bo' pa' rd' H locs ⟨hn, hk, hw, hb3, hb1, hpl⟩ h
        · exact absurd (congrArg zI (e_th hbk wt n _ _)) cq
      · refine lv_tableIn (off := 289) (tgt := 321) hx hb dL_law_32 (by decide) (by decide) (by decide) (by decide) ?_
        refine z_aload_n F hl dL_law_321 rfl ?_
        refine law_call (ci := 0) (C := RX0) (T := TX0) (N := 8) (n := 0) (As := []) F h (mX0_prefix l D ad ca n wt k lb pl up on bo  hn hk hb3 hp) (lw_V q143 q144 q145 q19 q146) (by decide +kernel) rfl rfl rfl ⟨by decide, by decide⟩ ⟨by decide, by decide⟩ hl rfl (Nat.le_of_ble_eq_true rfl) dL_law_322 (fun rX0 wX0 H locs hq h => ?_)
        obtain ⟨pl', up', rfl, rfl, hpl⟩ := hq
        refine z_aload_n F hl dL_law_325 rfl ?_
        refine law_call (ci := 1) (C := RX1) (T := TX1) (N := 6) (n := 0) (As := []) F h (mX1_prefix l D bd cb n wt k lb pa rd  hn hk hb3) (lw_V q264 q265 q266 q20 q267) (by decide +kernel) rfl rfl rfl ⟨by decide, by decide⟩ ⟨by decide, by decide⟩ hl rfl (Nat.le_of_ble_eq_true rfl) dL_law_326 (fun rX1 wX1 H locs hq h => ?_)
        obtain ⟨pa', rd', rfl, rfl⟩ := hq
        refine lv_icmp_eq (tgt := 383) hx hb dL_law_329 (by decide) (fun _ => ?_) (fun cq => ?_)
        · exact next n wt k lb pl' up' on bo pa' rd' H locs ⟨hn, hk, hw, hb3, hb1, hpl⟩ h
        · exact absurd (congrArg zI (e_pf hbk wt n)) cq
      · refine lv_tableIn (off := 302) (tgt := 334) hx hb dL_law_32 (by decide) (by decide) (by decide) (by decide) ?_
        refine z_aload_n F hl dL_law_334 rfl ?_
        refine law_call (ci := 0) (C := RX0) (T := TX0) (N := 8) (n := 0) (As := []) F h (mX0_everything l D ad ca n wt k lb pl up on bo  hn) (lw_V q155 q148 q149 q19 q150) (by decide +kernel) rfl rfl rfl ⟨by decide, by decide⟩ ⟨by decide, by decide⟩ hl rfl (Nat.le_of_ble_eq_true rfl) dL_law_335 (fun rX0 wX0 H locs hq h => ?_)
        obtain ⟨rfl, rfl⟩ := hq
        refine z_aload_n F hl dL_law_338 rfl ?_
        refine law_call (ci := 1) (C := RX1) (T := TX1) (N := 6) (n := 0) (As := []) F h (mX1_everything l D bd cb n wt k lb pa rd  hn) (lw_V q268 q269 q270 q20 q271) (by decide +kernel) rfl rfl rfl ⟨by decide, by decide⟩ ⟨by decide, by decide⟩ hl rfl (Nat.le_of_ble_eq_true rfl) dL_law_339 (fun rX1 wX1 H locs hq h => ?_)
        obtain ⟨pa', rfl, rfl⟩ := hq
        refine lv_icmp_eq (tgt := 383) hx hb dL_law_342 (by decide) (fun _ => ?_) (fun cq => ?_)
        · exact next n wt k lb pl up on bo pa' rd H locs ⟨hn, hk, hw, hb3, hb1, hp⟩ h
        · exact absurd (congrArg zI (e_ev wt n)) cq
      · refine lv_tableIn (off := 315) (tgt := 347) hx hb dL_law_32 (by decide) (by decide) (by decide) (by decide) ?_
        refine z_aload_n F hl dL_law_347 rfl ?_
        refine law_call (ci := 0) (C := RX0) (T := TX0) (N := 8) (n := 0) (As := []) F h (mX0_bestNext l D ad ca n wt k lb pl up on bo  hn hk hb3 hp) (lw_V q156 q157 q158 q19 q159) (by decide +kernel) rfl rfl rfl ⟨by decide, by decide⟩ ⟨by decide, by decide⟩ hl rfl (Nat.le_of_ble_eq_true rfl) dL_law_348 (fun rX0 wX0 H locs hq h => ?_)
        obtain ⟨pl', up', rfl, rfl, hpl⟩ := hq
        refine z_aload_n F hl dL_law_351 rfl ?_
        refine law_call (ci := 1) (C := RX1) (T := TX1) (N := 6) (n := 0) (As := []) F h (mX1_bestNext l D bd cb n wt k lb pa rd  hn hk hb3) (lw_V q272 q273 q274 q20 q275) (by decide +kernel) rfl rfl rfl ⟨by decide, by decide⟩ ⟨by decide, by decide⟩ hl rfl (Nat.le_of_ble_eq_true rfl) dL_law_352 (fun rX1 wX1 H locs hq h => ?_)
        obtain ⟨pa', rd', rfl, rfl⟩ := hq
        refine lv_icmp_eq (tgt := 383) hx hb dL_law_355 (by decide) (fun _ => ?_) (fun cq => ?_)
        · exact next n wt k (bnL k lb) pl' up' on bo pa' rd' H locs ⟨hn, hk, hw, (bn_ok hb3 hb1).1, (bn_ok hb3 hb1).2, hpl⟩ h
        · exact absurd (congrArg zI (e_bn hbk wt n)) cq
      · refine lv_tableIn (off := 328) (tgt := 360) hx hb dL_law_32 (by decide) (by decide) (by decide) (by decide) ?_
        refine z_aload_n F hl dL_law_360 rfl ?_
        refine z_aload_n F hl dL_law_361 rfl ?_
        refine z_iload_n F hl dL_law_362 rfl ?_
        refine z_iconst F dL_law_363 ?_
        refine z_iadd F dL_law_364 ?_
        refine law_ld F hX hbl h.2.2.2 hL (i + 1) dL_law_365 ?_
        refine law_call (ci := 0) (C := RX0) (T := TX0) (N := 8) (n := 1) (As := [.int (zI (xs (i + 1)).toInt)]) F h (mX0_bestAt l D ad ca n wt k lb pl up on bo ((xs (i + 1)).toInt) (i32_in _) hn hk hb3 hp hw (e_gp hw hbk n)) (lw_V q163 q164 q165 q19 q166) (by decide +kernel) rfl rfl rfl ⟨by decide, by decide⟩ ⟨by decide, by decide⟩ hl rfl (Nat.le_of_ble_eq_true rfl) dL_law_366 (fun rX0 wX0 H locs hq h => ?_)
        obtain ⟨pl', on', bo', rfl, rfl, hpl⟩ := hq
        refine z_aload_n F hl dL_law_369 rfl ?_
        refine z_aload_n F hl dL_law_370 rfl ?_
        refine z_iload_n F hl dL_law_371 rfl ?_
        refine z_iconst F dL_law_372 ?_
        refine z_iadd F dL_law_373 ?_
        refine law_ld F hX hbl h.2.2.2 hL (i + 1) dL_law_374 ?_
        refine law_call (ci := 1) (C := RX1) (T := TX1) (N := 6) (n := 1) (As := [.int (zI (xs (i + 1)).toInt)]) F h (mX1_bestAt l D bd cb n wt k lb pa rd ((xs (i + 1)).toInt) (i32_in _) hn hk hb3 hw) (lw_V q279 q280 q281 q20 q282) (by decide +kernel) rfl rfl rfl ⟨by decide, by decide⟩ ⟨by decide, by decide⟩ hl rfl (Nat.le_of_ble_eq_true rfl) dL_law_375 (fun rX1 wX1 H locs hq h => ?_)
        obtain ⟨pa', rd', rfl, rfl⟩ := hq
        refine lv_icmp_eq (tgt := 383) hx hb dL_law_378 (by decide) (fun _ => ?_) (fun cq => ?_)
        · exact next n wt k lb pl' up on' bo' pa' rd' H locs ⟨hn, hk, hw, hb3, hb1, hpl⟩ h
        · exact absurd (congrArg zI (e_ba hw hbk n _)) cq
      · refine lv_tableOut (tgt := 383) hx hb dL_law_32 (Or.inr (by decide)) (by decide) ?_
        exact next n wt k lb pl up on bo pa rd H locs hI h
set_option maxHeartbeats 8000000 in
set_option maxRecDepth 100000 in
/-- THE LAW, from its entry -/
theorem whole_start {p : Program} {e : Env} {s : State} {m : MethodId} {below : List Frame} {meth : Method} {c : Code} (l : Launch) {b L : Nat} {xs : Nat → Int32} (hL : L ≤ 256) (C0 : lw_At p s m meth c b L xs) : W p l e room_1 s m #[Value.ref b] below meth c s.heap [] 0 0 (lw_Z below #[Value.ref b] s) (entryFrame m ([Value.ref b] : List Value).toArray 4) := by
  obtain ⟨hx, hb, hr, hml, hown, hts0, hX, hbl, hlocks, hgv⟩ := id C0
  have hts : ∀ w ∈ lw_all, w.before #[Value.ref b] s = true := fun w h => hts0 w (lw_all_tbl h)
  have F : fx p m meth c s #[Value.ref b] cL_law 4 R_law (fun q : Nat => s.heap.size ≤ q) := ⟨hx, hb, hml, hown, hts, hlocks, fun _ h => h⟩
  have hA : ∀ q : Nat, s.heap.size ≤ q → (fun q : Nat => s.heap.size ≤ q) q := fun _ h => h
  obtain ⟨c0, iS0, hKn0⟩ := u_known (C := RX0) (T := TX0) (N := 8) (n := 8) hts in_X0 (hts _ q22)
  obtain ⟨c1, iS1, hKn1⟩ := u_known (C := RX1) (T := TX1) (N := 6) (n := 6) hts in_X1 (hts _ q168)
  obtain ⟨D, hKc⟩ : ∃ D : va_G, ∀ (k : Nat) (q : vw_C), vwCl[k]? = some q → u_Kn s q.1 q.2.1 q.2.2 (D.1 k) (D.2 k) := by
    refine ⟨(fun k => if k = 0 then c0 else c1, fun k => if k = 0 then iS0 else iS1), ?_⟩
    intro k q hq
    match k, hq with
    | 0, hq => cases hq; exact hKn0
    | 1, hq => cases hq; exact hKn1
    | k + 2, hq => simp [vwCl] at hq
  have hS : va_S (fun q : Nat => s.heap.size ≤ q) s.heap s.heap [] := va_S.rf
  have hK : va_K D vwCl [] s := ⟨hKc, fun k q h => by simp at h⟩
  have hP : va_P D vwCl [] s.heap := fun k q h => by simp at h
  have hD : va_D (fun q : Nat => s.heap.size ≤ q) [] := ⟨fun i j p q h => by simp at h, fun k q h => by simp at h⟩
  have hl := lv_entry ([.ref b]) (n := 4) (Nat.le_of_ble_eq_true rfl)
  rw [lg_entry_eq]
  have hl := lz_entry (by simp [Value.category]) hl
  generalize (lg_sl ([.ref b]) ++ List.replicate (4 - (lg_sl ([.ref b])).length) Slot.unset).toArray = ls at hl ⊢
  refine va_new (ci := 0) (fs := [.int (zI 0), .null, .int (zI 0), .null, .int (zI 0), .null, .null, .null]) (C := RX0) (T := TX0) (N := 8) hx hb hts in_X0 tyX0 tyX0_ok hown (hts _ q21) (hts _ q22) (hts _ q19) hK hP hD hS hA rfl (fun j hj => by rcases (show j = 0 ∨ j = 1 ∨ j = 2 ∨ j = 3 ∨ j = 4 ∨ j = 5 ∨ j = 6 ∨ j = 7 by omega) with rfl | rfl | rfl | rfl | rfl | rfl | rfl | rfl <;> rfl) (Nat.le_of_ble_eq_true rfl) (Nat.le_of_ble_eq_true rfl) dL_law_0 (fun q0 H hP hD hS => ?_)
  have hP : va_P D vwCl [(q0, .inr (0, [.int (zI 0), .null, .int (zI 0), .null, .int (zI 0), .null, .null, .null]))] H := hP
  have hD : va_D (fun q : Nat => s.heap.size ≤ q) [(q0, .inr (0, [.int (zI 0), .null, .int (zI 0), .null, .int (zI 0), .null, .null, .null]))] := hD
  refine W.widen (k := 1) (n := 8) (by decide) (by decide) ?_
  refine z_dup F dL_law_3 ?_
  have hFc := va_free (wc := [(q0, .inr (0, [.int (zI 0), .null, .int (zI 0), .null, .int (zI 0), .null, .null, .null]))]) hD hS hA [0] rfl
  refine va_callv (va_runI (As := []) (rest := [.ref q0]) ⟨hx, hb, hml, hown, hts⟩ (mX0_init l D q0 H.size) (cwI 0 hts (lw_meth q25) rfl rfl rfl (hts _ q19) (hts _ q23) (hts _ q24) rfl (by decide +kernel) ⟨Nat.le_of_ble_eq_true rfl, Nat.le_of_ble_eq_true rfl⟩) ⟨cPc_blind, fun U hU hW => ⟨rfl, by rw [hU], by rw [hU]; exact hP, va_K.moved hW.alike hK, hD.weaken (fun _ _ _ _ => trivial)⟩⟩ rfl rfl hl.1 rfl (lv_room (Nat.le_of_ble_eq_true rfl)) dL_law_4 ⟨Nat.le_of_ble_eq_true rfl, Nat.le_of_ble_eq_true rfl⟩) hS (fun q _ h => hFc q h) hFc (fun u t H1 locs ht hvm hw1 hB hz1 hk1 hS => ?_)
  obtain ⟨ad, ca, had, rfl⟩ := hw1
  obtain ⟨hP1, hK1, hD1⟩ := hB
  rw [ht] at hP1
  have hK1 := va_K.moved hvm.symm hK1
  have hPn : va_P D vwCl (dw ad ca 0 (fun _ => 0) 0 (fun _ => 0) 0 (fun _ => 0) (fun _ => 0) (fun _ => 0)) H1 := hP1
  have hDn : va_D (fun q : Nat => s.heap.size ≤ q) (dw ad ca 0 (fun _ => 0) 0 (fun _ => 0) 0 (fun _ => 0) (fun _ => 0) (fun _ => 0)) := hD1.weaken (fun _ _ _ hq => hFc _ hq)
  have hKn : va_K D vwCl (dt ca) s := hK1
  subst had
  refine W.widen (k := 6) (n := 198) (by decide) (by decide) ?_
  refine z_astore_n F hl dL_law_7 (fun ls hl => ?_)
  refine va_new (ci := 1) (fs := [.int (zI 0), .null, .int (zI 0), .null, .null, .null]) (C := RX1) (T := TX1) (N := 6) hx hb hts in_X1 tyX1 tyX1_ok hown (hts _ q167) (hts _ q168) (hts _ q20) hKn hPn hDn hS hA rfl (fun j hj => by rcases (show j = 0 ∨ j = 1 ∨ j = 2 ∨ j = 3 ∨ j = 4 ∨ j = 5 by omega) with rfl | rfl | rfl | rfl | rfl | rfl <;> rfl) (Nat.le_of_ble_eq_true rfl) (Nat.le_of_ble_eq_true rfl) dL_law_8 (fun q1 H hP hD hS => ?_)
  refine W.widen (k := 7) (n := 204) (by decide) (by decide) ?_
  refine z_dup F dL_law_11 ?_
  have hPc := hP.sub (ws' := [(q1, .inr (1, [.int (zI 0), .null, .int (zI 0), .null, .null, .null]))]) [6] rfl
  have hDc := hD.sub (ws' := [(q1, .inr (1, [.int (zI 0), .null, .int (zI 0), .null, .null, .null]))]) [6] (by decide) rfl
  have hKc2 := hKn.sub (tys' := []) [] rfl
  have hFc := va_free (wc := [(q1, .inr (1, [.int (zI 0), .null, .int (zI 0), .null, .null, .null]))]) hD hS hA [6] rfl
  refine va_callv (va_runI (As := []) (rest := [.ref q1]) ⟨hx, hb, hml, hown, hts⟩ (mX1_init l D q1 H.size) (cwI 0 hts (lw_meth q171) rfl rfl rfl (hts _ q20) (hts _ q169) (hts _ q170) rfl (by decide +kernel) ⟨Nat.le_of_ble_eq_true rfl, Nat.le_of_ble_eq_true rfl⟩) ⟨cPc_blind, fun U hU hW => ⟨rfl, by rw [hU], by rw [hU]; exact hPc, va_K.moved hW.alike hKc2, hDc.weaken (fun _ _ _ _ => trivial)⟩⟩ rfl rfl hl.1 rfl (lv_room (Nat.le_of_ble_eq_true rfl)) dL_law_12 ⟨Nat.le_of_ble_eq_true rfl, Nat.le_of_ble_eq_true rfl⟩) hS (fun q _ h => hFc q h) hFc (fun u t H1 locs ht hvm hw1 hB hz1 hk1 hS => ?_)
  obtain ⟨bd, cb, hbd, rfl⟩ := hw1
  obtain ⟨hP1, hK1, hD1⟩ := hB
  rw [ht] at hP1
  have hK1 := va_K.moved hvm.symm hK1
  obtain ⟨hPm, hDm⟩ := va_join (wr := dw ad ca 0 (fun _ => 0) 0 (fun _ => 0) 0 (fun _ => 0) (fun _ => 0) (fun _ => 0)) hP hD [6] [0, 1, 2, 3, 4, 5] rfl rfl (by decide) (by decide) hk1 hFc hP1 hD1
  have hKm := hKn.app hK1
  subst hbd
  refine W.widen (k := 11) (n := 244) (by decide) (by decide) ?_
  refine z_astore_n F hl dL_law_15 (fun ls hl => ?_)
  refine z_iconst F dL_law_16 ?_
  refine z_istore_n F hl dL_law_17 (fun ls hl => ?_)
  exact law_loop l hL C0 D ad ca bd cb (L + 1) 0 0 (fun _ => 0) 0 (fun _ => 0) 0 (fun _ => 0) (fun _ => 0) (fun _ => 0) (fun _ => 0) (fun _ => 0) H1 locs ls (by omega) (by omega) ⟨by omega, by omega, fun _ => by simp, fun _ => by simp, fun j hj => absurd hj (by omega), Or.inl rfl⟩ ⟨hKm, hPm, hDm, hS⟩ hl
end
section
-- ===== YOUR PART ENDS =====
set_option maxHeartbeats 4000000 in
theorem lw_walk (l : Launch) (b : Addr) (xs : List Int32) : MetFree l x (headSpec (Jvm.Cond.code x code maxLocals ret :: tables_1) room_1) (lw_P b xs) (fun _ _ _ _ _ => True) lw_Q := by
  refine MetFree.of_bodyS (code := code) (maxLocals := maxLocals) (ret := ret) (by decide) ?_ ?_
  · intro args s m h hn
    obtain ⟨meth, c, h1, h2, h3, h4, h5, h6, -, -⟩ := Cond.code_spec hn (atoms_spec (ws := Jvm.Cond.code x code maxLocals ret :: tables_1) h _ List.mem_cons_self)
    exact ⟨meth, c, h1, h2, h3, h4, h5, h6⟩
  · intro p e s m args below meth c s₁ B hml0 hP _
    obtain ⟨rfl, hx, hbd, hgv⟩ := hP
    obtain ⟨scr, harrAt, hlist, hof, hsmall⟩ := hx
    obtain ⟨hcb, hkn, -, -⟩ := State.arrayAt?_spec harrAt
    have hown : s.vm.findClass R_law = some m.cls := findClass_of_methodNamed B.named
    have hts0 : ∀ c ∈ (Jvm.Cond.code x code maxLocals ret :: tables_1), c.before #[Value.ref b] s = true := atoms_spec (ws := Jvm.Cond.code x code maxLocals ret :: tables_1) B.pre
    have hts : ∀ w ∈ lw_tbl, w.before #[Value.ref b] s = true := k2_hts_sels lw_privs (fun w hw => hts0 w (List.mem_cons_of_mem _ hw)) lw_privs_ok
    have hml : c.maxLocals = 4 := B.maxLocals_eq (hts0 _ List.mem_cons_self)
    have X₀ : Stand p l e room_1 s m #[Value.ref b] below meth c s₁ [] 0 0 := Stand.of_body B
    have hh0 : s₁.heap = s.heap := by rw [B.state]; rfl
    have hsz : scr.slots.size = xs.length := by rw [← Array.length_toList, hlist, List.length_map]
    have hval : ∀ j : Nat, j < xs.length → scr.slots[j]? = some (.int (xs.getD j 0)) := fun j hj => by
      rw [← Array.getElem?_toList, hlist]
      simp [hj]
    have hbl : b < s.heap.size := (Array.getElem?_eq_some_iff.mp hcb).1
    have hX : va_X b xs.length (fun j => xs.getD j 0) s s.heap := ⟨scr, hcb, hof, hkn, hsz, hval⟩
    have K : W p l e room_1 s m #[Value.ref b] below meth c s₁.heap [] 0 0 (lw_Z below #[Value.ref b] s) (entryFrame m ([Value.ref b] : List Value).toArray 4) := by
      rw [hh0]
      exact whole_start l hbd ⟨B.exec, B.bytes, B.returns, hml, hown, hts, hX, hbl, B.notSynchronized, hgv⟩
    obtain ⟨t, a1, o, b1, b2, b3⟩ := K s₁ rfl X₀
    exact ⟨t, o, a1, b1, b2, b3⟩
theorem lw_pre_spec {args : Array Value} {s : State} (h : (Jvm.Cond.and given_1 narrow_1).before args s = true) (hr : rest_1_c.before args s = true) : ∃ (b : Addr) (xs : List Int32), lw_P b xs args s := by
  have hs := flat_of_before _ h
  have hq := flat_of_before _ hr
  have hc : (Cond.count 1).before args s = true := hs _ (by decide +kernel)
  have harr : (Cond.arrayOf (.arg 0) .int).before args s = true := hs _ (by decide +kernel)
  have hle : (Cond.le (.length (.arg 0)) (.int 256)).before args s = true := hs _ (by decide +kernel)
  have hlen : (Cond.isInt (.length (.arg 0))).before args s = true := hq _ (by decide +kernel)
  have hall : (Cond.all (.arg 0) (.isInt (.elem (.arg 0) (.index 0)))).before args s = true := hq _ (by decide +kernel)
  obtain ⟨b, xs, hb, hx⟩ := State.ints_of_pre rfl harr hlen hall
  have hsm : xs.length < 2 ^ 31 := hx.choose_spec.2.2.2
  have hev : (Term.length (.arg 0)).eval args s none [] s = some (.int xs.length.toInt32) := hx.length_eval hb
  have hv := Cond.le_ints hev (show (Term.int 256).eval args s none [] s = some (.int 256) from rfl)
  have hd : xs.length.toInt32 ≤ 256 := by
    simpa [Cond.before, Cond.holds, hv] using hle
  have hN : xs.length ≤ 256 := (Int32.ofNat_le_ofNat hsm (by decide)).mp (show Int32.ofNat xs.length ≤ Int32.ofNat 256 from hd)
  exact ⟨b, xs, Cond.one_arg hc (show args[0]? = some (.ref b) from hb), hx, hN, h⟩
theorem lw_comes (l : Launch) : Comes l x (Jvm.Cond.code x code maxLocals ret :: tables_1) room_1 (fun tb e args s => Calls_1 tb e args s ∧ rest_1 tb e args s ∧ Pre_1 tb e args s)
    (fun _ _ args s o t => lw_Q args s o t) := by
  intro p e ha hc hk s m args below hf hfit hheap happ hpre
  obtain ⟨b, xs, hP⟩ := lw_pre_spec hpre.2.2 hpre.2.1
  obtain ⟨k, o, h1, h2, h3, hQ⟩ := lw_walk l b xs p e ha hc hk s m args below hf ((Spec.applies_iff_loose hf).mp happ).1 hP trivial
  exact ⟨k, o, h1, h2, h3, hQ⟩
theorem lw_frame {s t : State} {o : Outcome} {args : Array Value} (h : Framed s o t [] 600000 7290000) :
    Framed s o t (fieldLocs frame_1_writes args s ++ arrayLocs frame_1_arrays args s ++ staticLocs frame_1_statics s) 600000 7290000 := h
theorem lw_limb (L : Cond) (hL : ∀ (args : Array Value) (s t : State), L.after args s (.returned (some (.int 1))) t = true) :
    ArmFor flags0 classFile x code maxLocals ret World_1 tables_1 room_1 Calls_1 rest_1 Pre_1
      (fun tb e a s o t => postC L tb e a s o t ∧ Framed s o t (fieldLocs frame_1_writes a s ++ arrayLocs frame_1_arrays a s ++ staticLocs frame_1_statics s) 600000 7290000) := by
  intro l _ _ _ p e ha hc hk s m args below hf hfit hheap happ hpre
  obtain ⟨k, o, h1, h2, h3, rfl, hF⟩ := lw_comes l p e ha hc hk s m args below hf hfit hheap happ hpre
  exact ⟨k, _, h1, h2, h3, hL args s _, lw_frame hF⟩
theorem i_vc : Claimed_1_1 ∧ Claimed_1_2 := ⟨lw_limb limb_1_1 (fun args s t => by simp [limb_1_1, Cond.after, Cond.holds, Cond.value]), lw_limb limb_1_2 (fun args s t => Cond.after_iff.mpr (by
  first | (rw [show limb_1_2 = Cond.eq .result (.int 1) from rfl, Cond.eq_ints (x := 1) (y := 1) rfl rfl]; simp; done) | (simp [limb_1_2, Cond.value, Term.eval]; done)))⟩
end
