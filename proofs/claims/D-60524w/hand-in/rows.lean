section
-- ===== PART A: goes FIRST, ahead of the names: the tables' words, and 'selects' of the private methods out of them =====
/-- a private method of a class that the tables say can be made, by its rows of tables_1 -/
def lw_okq (q : MethodName × Nat) : Prop := (q.1.cls ≠ "java/lang/invoke/MethodHandle" ∧ q.1.cls ≠ "java/lang/invoke/VarHandle") ∧ Cond.instantiable q.1.cls q.2 ∈ tables_1 ∧ Cond.privateMethod q.1 ∈ tables_1 ∧ Cond.instanceMethod q.1 ∈ tables_1
set_option maxRecDepth 100000
theorem lw_t1 {w : Cond} (h : w ∈ tables_1_1) : w ∈ tables_1 := List.mem_append_left _ h
theorem lw_t2 {w : Cond} (h : w ∈ tables_1_2) : w ∈ tables_1 := List.mem_append_right _ h
theorem lw_p0 : lw_okq (⟨"BatchAdmission", "freeNumber", "()I"⟩, 13) := ⟨⟨by decide +kernel, by decide +kernel⟩, lw_t1 (List.mem_of_getElem? (i := 4) rfl), lw_t1 (List.mem_of_getElem? (i := 57) rfl), lw_t1 (List.mem_of_getElem? (i := 58) rfl)⟩
theorem lw_p1 : lw_okq (⟨"BatchAdmission", "fitsWith", "(I)Z"⟩, 13) := ⟨⟨by decide +kernel, by decide +kernel⟩, lw_t1 (List.mem_of_getElem? (i := 4) rfl), lw_t1 (List.mem_of_getElem? (i := 61) rfl), lw_t1 (List.mem_of_getElem? (i := 62) rfl)⟩
theorem lw_p2 : lw_okq (⟨"BatchAdmission", "freeAll", "()V"⟩, 13) := ⟨⟨by decide +kernel, by decide +kernel⟩, lw_t1 (List.mem_of_getElem? (i := 4) rfl), lw_t1 (List.mem_of_getElem? (i := 65) rfl), lw_t1 (List.mem_of_getElem? (i := 66) rfl)⟩
theorem lw_p3 : lw_okq (⟨"BatchAdmission", "fitsBy", "(I)Z"⟩, 13) := ⟨⟨by decide +kernel, by decide +kernel⟩, lw_t1 (List.mem_of_getElem? (i := 4) rfl), lw_t1 (List.mem_of_getElem? (i := 69) rfl), lw_t1 (List.mem_of_getElem? (i := 70) rfl)⟩
theorem lw_p4 : lw_okq (⟨"BatchAdmission", "arrange", "()V"⟩, 13) := ⟨⟨by decide +kernel, by decide +kernel⟩, lw_t1 (List.mem_of_getElem? (i := 4) rfl), lw_t1 (List.mem_of_getElem? (i := 73) rfl), lw_t1 (List.mem_of_getElem? (i := 74) rfl)⟩
theorem lw_p5 : lw_okq (⟨"BatchAdmission", "insertInOrder", "(I)V"⟩, 13) := ⟨⟨by decide +kernel, by decide +kernel⟩, lw_t1 (List.mem_of_getElem? (i := 4) rfl), lw_t1 (List.mem_of_getElem? (i := 77) rfl), lw_t1 (List.mem_of_getElem? (i := 78) rfl)⟩
theorem lw_p6 : lw_okq (⟨"BatchAdmission", "roomFor", "(II)Z"⟩, 13) := ⟨⟨by decide +kernel, by decide +kernel⟩, lw_t1 (List.mem_of_getElem? (i := 4) rfl), lw_t1 (List.mem_of_getElem? (i := 81) rfl), lw_t1 (List.mem_of_getElem? (i := 82) rfl)⟩
theorem lw_p7 : lw_okq (⟨"BatchAdmission", "nextMachine", "(III)I"⟩, 13) := ⟨⟨by decide +kernel, by decide +kernel⟩, lw_t1 (List.mem_of_getElem? (i := 4) rfl), lw_t1 (List.mem_of_getElem? (i := 86) rfl), lw_t1 (List.mem_of_getElem? (i := 87) rfl)⟩
theorem lw_p8 : lw_okq (⟨"BatchAdmission", "firstWithEnd", "(I)Z"⟩, 13) := ⟨⟨by decide +kernel, by decide +kernel⟩, lw_t1 (List.mem_of_getElem? (i := 4) rfl), lw_t1 (List.mem_of_getElem? (i := 90) rfl), lw_t1 (List.mem_of_getElem? (i := 91) rfl)⟩
theorem lw_p9 : lw_okq (⟨"BatchAdmission", "isHeld", "(I)Z"⟩, 13) := ⟨⟨by decide +kernel, by decide +kernel⟩, lw_t1 (List.mem_of_getElem? (i := 4) rfl), lw_t1 (List.mem_of_getElem? (i := 98) rfl), lw_t1 (List.mem_of_getElem? (i := 99) rfl)⟩
theorem lw_p10 : lw_okq (⟨"BatchAdmission", "makePlan", "()V"⟩, 13) := ⟨⟨by decide +kernel, by decide +kernel⟩, lw_t1 (List.mem_of_getElem? (i := 4) rfl), lw_t1 (List.mem_of_getElem? (i := 110) rfl), lw_t1 (List.mem_of_getElem? (i := 111) rfl)⟩
theorem lw_p11 : lw_okq (⟨"BatchAdmission", "findLeastEnd", "()V"⟩, 13) := ⟨⟨by decide +kernel, by decide +kernel⟩, lw_t1 (List.mem_of_getElem? (i := 4) rfl), lw_t1 (List.mem_of_getElem? (i := 114) rfl), lw_t1 (List.mem_of_getElem? (i := 115) rfl)⟩
theorem lw_p12 : lw_okq (⟨"BatchAdmission", "lowerBound", "()I"⟩, 13) := ⟨⟨by decide +kernel, by decide +kernel⟩, lw_t1 (List.mem_of_getElem? (i := 4) rfl), lw_t1 (List.mem_of_getElem? (i := 118) rfl), lw_t1 (List.mem_of_getElem? (i := 119) rfl)⟩
theorem lw_p13 : lw_okq (⟨"BatchAdmission", "longestFirst", "()I"⟩, 13) := ⟨⟨by decide +kernel, by decide +kernel⟩, lw_t1 (List.mem_of_getElem? (i := 4) rfl), lw_t1 (List.mem_of_getElem? (i := 122) rfl), lw_t1 (List.mem_of_getElem? (i := 123) rfl)⟩
theorem lw_p14 : lw_okq (⟨"BatchAdmission", "earliestMachine", "()I"⟩, 13) := ⟨⟨by decide +kernel, by decide +kernel⟩, lw_t1 (List.mem_of_getElem? (i := 4) rfl), lw_t1 (List.mem_of_getElem? (i := 126) rfl), lw_t1 (List.mem_of_getElem? (i := 127) rfl)⟩
theorem lw_p15 : lw_okq (⟨"BatchAdmission", "fixJob", "(I)V"⟩, 13) := ⟨⟨by decide +kernel, by decide +kernel⟩, lw_t1 (List.mem_of_getElem? (i := 4) rfl), lw_t1 (List.mem_of_getElem? (i := 130) rfl), lw_t1 (List.mem_of_getElem? (i := 131) rfl)⟩
def lw_privs_1 : List (MethodName × Nat) := [(⟨"BatchAdmission", "freeNumber", "()I"⟩, 13), (⟨"BatchAdmission", "fitsWith", "(I)Z"⟩, 13), (⟨"BatchAdmission", "freeAll", "()V"⟩, 13), (⟨"BatchAdmission", "fitsBy", "(I)Z"⟩, 13), (⟨"BatchAdmission", "arrange", "()V"⟩, 13), (⟨"BatchAdmission", "insertInOrder", "(I)V"⟩, 13), (⟨"BatchAdmission", "roomFor", "(II)Z"⟩, 13), (⟨"BatchAdmission", "nextMachine", "(III)I"⟩, 13), (⟨"BatchAdmission", "firstWithEnd", "(I)Z"⟩, 13), (⟨"BatchAdmission", "isHeld", "(I)Z"⟩, 13), (⟨"BatchAdmission", "makePlan", "()V"⟩, 13), (⟨"BatchAdmission", "findLeastEnd", "()V"⟩, 13), (⟨"BatchAdmission", "lowerBound", "()I"⟩, 13), (⟨"BatchAdmission", "longestFirst", "()I"⟩, 13), (⟨"BatchAdmission", "earliestMachine", "()I"⟩, 13), (⟨"BatchAdmission", "fixJob", "(I)V"⟩, 13)]
theorem lw_r1 : ∀ q ∈ lw_privs_1, lw_okq q := List.forall_mem_cons.mpr ⟨lw_p0, List.forall_mem_cons.mpr ⟨lw_p1, List.forall_mem_cons.mpr ⟨lw_p2, List.forall_mem_cons.mpr ⟨lw_p3, List.forall_mem_cons.mpr ⟨lw_p4, List.forall_mem_cons.mpr ⟨lw_p5, List.forall_mem_cons.mpr ⟨lw_p6, List.forall_mem_cons.mpr ⟨lw_p7, List.forall_mem_cons.mpr ⟨lw_p8, List.forall_mem_cons.mpr ⟨lw_p9, List.forall_mem_cons.mpr ⟨lw_p10, List.forall_mem_cons.mpr ⟨lw_p11, List.forall_mem_cons.mpr ⟨lw_p12, List.forall_mem_cons.mpr ⟨lw_p13, List.forall_mem_cons.mpr ⟨lw_p14, List.forall_mem_cons.mpr ⟨lw_p15, fun _ h => absurd h List.not_mem_nil⟩⟩⟩⟩⟩⟩⟩⟩⟩⟩⟩⟩⟩⟩⟩⟩
theorem lw_p16 : lw_okq (⟨"BatchAdmissionModel", "most", "()I"⟩, 7) := ⟨⟨by decide +kernel, by decide +kernel⟩, lw_t1 (List.mem_of_getElem? (i := 153) rfl), lw_t1 (List.mem_of_getElem? (i := 190) rfl), lw_t1 (List.mem_of_getElem? (i := 191) rfl)⟩
theorem lw_p17 : lw_okq (⟨"BatchAdmissionModel", "plans", "()I"⟩, 7) := ⟨⟨by decide +kernel, by decide +kernel⟩, lw_t1 (List.mem_of_getElem? (i := 153) rfl), lw_t1 (List.mem_of_getElem? (i := 194) rfl), lw_t1 (List.mem_of_getElem? (i := 195) rfl)⟩
theorem lw_p18 : lw_okq (⟨"BatchAdmissionModel", "lay", "(I)V"⟩, 7) := ⟨⟨by decide +kernel, by decide +kernel⟩, lw_t1 (List.mem_of_getElem? (i := 153) rfl), lw_t1 (List.mem_of_getElem? (i := 201) rfl), lw_t1 (List.mem_of_getElem? (i := 202) rfl)⟩
theorem lw_p19 : lw_okq (⟨"BatchAdmissionModel", "left", "(I)I"⟩, 7) := ⟨⟨by decide +kernel, by decide +kernel⟩, lw_t1 (List.mem_of_getElem? (i := 153) rfl), lw_t1 (List.mem_of_getElem? (i := 205) rfl), lw_t1 (List.mem_of_getElem? (i := 206) rfl)⟩
theorem lw_p20 : lw_okq (⟨"BatchAdmissionModel", "choose", "()I"⟩, 7) := ⟨⟨by decide +kernel, by decide +kernel⟩, lw_t1 (List.mem_of_getElem? (i := 153) rfl), lw_t1 (List.mem_of_getElem? (i := 221) rfl), lw_t1 (List.mem_of_getElem? (i := 222) rfl)⟩
theorem lw_p21 : lw_okq (⟨"BatchAdmissionModel", "greatest", "()I"⟩, 7) := ⟨⟨by decide +kernel, by decide +kernel⟩, lw_t1 (List.mem_of_getElem? (i := 153) rfl), lw_t1 (List.mem_of_getElem? (i := 226) rfl), lw_t1 (List.mem_of_getElem? (i := 227) rfl)⟩
def lw_privs_2 : List (MethodName × Nat) := [(⟨"BatchAdmissionModel", "most", "()I"⟩, 7), (⟨"BatchAdmissionModel", "plans", "()I"⟩, 7), (⟨"BatchAdmissionModel", "lay", "(I)V"⟩, 7), (⟨"BatchAdmissionModel", "left", "(I)I"⟩, 7), (⟨"BatchAdmissionModel", "choose", "()I"⟩, 7), (⟨"BatchAdmissionModel", "greatest", "()I"⟩, 7)]
theorem lw_r2 : ∀ q ∈ lw_privs_2, lw_okq q := List.forall_mem_cons.mpr ⟨lw_p16, List.forall_mem_cons.mpr ⟨lw_p17, List.forall_mem_cons.mpr ⟨lw_p18, List.forall_mem_cons.mpr ⟨lw_p19, List.forall_mem_cons.mpr ⟨lw_p20, List.forall_mem_cons.mpr ⟨lw_p21, fun _ h => absurd h List.not_mem_nil⟩⟩⟩⟩⟩⟩
def lw_privs : List (MethodName × Nat) := lw_privs_1 ++ (lw_privs_2)
def lw_tbl : List Cond := k2_sels lw_privs ++ tables_1
theorem lw_privs_ok : ∀ q ∈ lw_privs, lw_okq q := by
  show ∀ q ∈ lw_privs_1 ++ (lw_privs_2), lw_okq q
  exact List.forall_mem_append.mpr ⟨lw_r1, lw_r2⟩
-- ===== ONE list of words for every method: the tables' words that hold all through a run =====
def lw_all : List Cond := lw_tbl.filter goodWord
/-- a word of the tables by its place: claim/WORDS.tsv -/
theorem lw_w {w : Cond} (i : Nat) (h : lw_tbl[i]? = some w) (g : goodWord w = true) : w ∈ lw_all := List.mem_filter.mpr ⟨List.mem_of_getElem? h, g⟩
theorem lw_all_tbl {w : Cond} (h : w ∈ lw_all) : w ∈ lw_tbl := (List.mem_filter.mp h).1
theorem lw_self : GoodIn lw_all lw_all := fun w h => ⟨h, good_of_word (List.mem_filter.mp h).2⟩
/-- a class's field words, by their places -/
theorem lw_in (ws : List Cond) (ps : List Nat) (hp : ws = ps.filterMap (fun i => lw_tbl[i]?)) (hg : ws.all goodWord = true) : ∀ w ∈ ws, w ∈ lw_all := by
  intro w h
  have h1 := List.all_eq_true.mp hg w h
  rw [hp] at h
  obtain ⟨i, -, hi⟩ := List.mem_filterMap.mp h
  exact lw_w i hi h1
/-- the words of a contract for the method y with code b, L locals, answer r -/
abbrev ws_ (y : MethodName) (b : ByteArray) (L : Nat) (r : Option FieldType) : List Cond := Cond.code y b L r :: lw_all
theorem lw_meth {y : MethodName} {b : ByteArray} {L : Nat} {r : Option FieldType} (h : Cond.code y b L r ∈ lw_all) : GoodIn lw_all (ws_ y b L r) := by
  intro w hw
  rcases List.mem_cons.mp hw with e | e
  · rw [e]
    exact lw_self _ h
  · exact lw_self _ e
theorem lw_app {a c : List Cond} (ha : ∀ w ∈ a, w ∈ lw_all) (hc : GoodIn lw_all c) : GoodIn lw_all (a ++ c) := by
  intro w hw
  rcases List.mem_append.mp hw with e | e
  · exact lw_self w (ha w e)
  · exact hc w e
/-- what a call through an object asks: cwV n hts (lw_V ..) -/
theorem lw_V {own : String} {idx : Nat} {C : String} {y : MethodName} {b : ByteArray} {L : Nat} {r : Option FieldType} (h1 : Cond.methodLink own idx y ∈ lw_all) (h2 : Cond.instanceMethod y ∈ lw_all) (h3 : Cond.selects C y y ∈ lw_all) (h4 : Cond.initialized C ∈ lw_all) (h5 : Cond.code y b L r ∈ lw_all) : GoodIn lw_all (wsV own idx C y (ws_ y b L r)) := by
  refine lw_app ?_ (lw_meth h5)
  intro w hw
  simp only [List.mem_cons, List.not_mem_nil, or_false] at hw
  rcases hw with e | e | e | e
  · rw [e]; exact h1
  · rw [e]; exact h2
  · rw [e]; exact h3
  · rw [e]; exact h4
/-- what a static call asks: va_cwS n hts (lw_S ..) -/
theorem lw_S {own : String} {idx : Nat} {y : MethodName} {b : ByteArray} {L : Nat} {r : Option FieldType} (h1 : Cond.methodLink own idx y ∈ lw_all) (h2 : Cond.static y ∈ lw_all) (h3 : Cond.initialized y.cls ∈ lw_all) (h4 : Cond.code y b L r ∈ lw_all) : GoodIn lw_all (va_wsS own idx y (ws_ y b L r)) := by
  refine lw_app ?_ (lw_meth h4)
  intro w hw
  simp only [List.mem_cons, List.not_mem_nil, or_false] at hw
  rcases hw with e | e | e
  · rw [e]; exact h1
  · rw [e]; exact h2
  · rw [e]; exact h3
/-- the words of a contract for a method WITH HANDLERS (hh: its table) -/
abbrev wsW_ (y : MethodName) (b : ByteArray) (L : Nat) (r : Option FieldType) (hh : List (Nat × Nat × Nat × Nat)) : List Cond := Cond.codeWith y b L r hh :: lw_all
theorem lw_methW {y : MethodName} {b : ByteArray} {L : Nat} {r : Option FieldType} {hh : List (Nat × Nat × Nat × Nat)} (h : Cond.codeWith y b L r hh ∈ lw_all) : GoodIn lw_all (wsW_ y b L r hh) := by
  intro w hw
  rcases List.mem_cons.mp hw with e | e
  · rw [e]
    exact lw_self _ h
  · exact lw_self _ e
/-- any list of words by their places (lw_in), good -/
theorem lw_good {ws : List Cond} (h : ∀ w ∈ ws, w ∈ lw_all) : GoodIn lw_all ws := fun w hw => lw_self w (h w hw)
/-- what a call of a method with handlers asks: vx_cwVW n hts (lw_VW ..), vx_cwSW n hts (lw_SW ..) -/
theorem lw_VW {own : String} {idx : Nat} {C : String} {y : MethodName} {b : ByteArray} {L : Nat} {r : Option FieldType} {hh : List (Nat × Nat × Nat × Nat)} (h1 : Cond.methodLink own idx y ∈ lw_all) (h2 : Cond.instanceMethod y ∈ lw_all) (h3 : Cond.selects C y y ∈ lw_all) (h4 : Cond.initialized C ∈ lw_all) (h5 : Cond.codeWith y b L r hh ∈ lw_all) : GoodIn lw_all (wsV own idx C y (wsW_ y b L r hh)) := by
  refine lw_app ?_ (lw_methW h5)
  intro w hw
  simp only [List.mem_cons, List.not_mem_nil, or_false] at hw
  rcases hw with e | e | e | e
  · rw [e]; exact h1
  · rw [e]; exact h2
  · rw [e]; exact h3
  · rw [e]; exact h4
theorem lw_SW {own : String} {idx : Nat} {y : MethodName} {b : ByteArray} {L : Nat} {r : Option FieldType} {hh : List (Nat × Nat × Nat × Nat)} (h1 : Cond.methodLink own idx y ∈ lw_all) (h2 : Cond.static y ∈ lw_all) (h3 : Cond.initialized y.cls ∈ lw_all) (h4 : Cond.codeWith y b L r hh ∈ lw_all) : GoodIn lw_all (va_wsS own idx y (wsW_ y b L r hh)) := by
  refine lw_app ?_ (lw_methW h4)
  intro w hw
  simp only [List.mem_cons, List.not_mem_nil, or_false] at hw
  rcases hw with e | e | e
  · rw [e]; exact h1
  · rw [e]; exact h2
  · rw [e]; exact h3
/-- a word by its place in its run of the tables -/
theorem lw_at {r : List Cond} (hr : ∀ w ∈ r, w ∈ lw_tbl) {w : Cond} (i : Nat) (h : r[i]? = some w) : w ∈ lw_tbl := hr w (List.mem_of_getElem? h)
theorem lw_g {w : Cond} (h : w ∈ lw_tbl) (g : goodWord w = true) : w ∈ lw_all := List.mem_filter.mpr ⟨h, g⟩
theorem lw_ms : ∀ w ∈ k2_sels lw_privs, w ∈ lw_tbl := fun w h => show w ∈ k2_sels lw_privs ++ tables_1 from List.mem_append_left _ h
theorem lw_m1 : ∀ w ∈ tables_1_1, w ∈ lw_tbl := fun w h => show w ∈ k2_sels lw_privs ++ tables_1 from List.mem_append_right (k2_sels lw_privs) (show w ∈ tables_1 from List.mem_append_left _ h)
theorem lw_m2 : ∀ w ∈ tables_1_2, w ∈ lw_tbl := fun w h => show w ∈ k2_sels lw_privs ++ tables_1 from List.mem_append_right (k2_sels lw_privs) (show w ∈ tables_1 from List.mem_append_right _ h)
theorem qs0 : (Cond.selects "BatchAdmission" ⟨"BatchAdmission", "freeNumber", "()I"⟩ ⟨"BatchAdmission", "freeNumber", "()I"⟩) ∈ lw_all := lw_g (lw_at lw_ms 0 rfl) rfl
theorem qs1 : (Cond.selects "BatchAdmission" ⟨"BatchAdmission", "fitsWith", "(I)Z"⟩ ⟨"BatchAdmission", "fitsWith", "(I)Z"⟩) ∈ lw_all := lw_g (lw_at lw_ms 1 rfl) rfl
theorem qs2 : (Cond.selects "BatchAdmission" ⟨"BatchAdmission", "freeAll", "()V"⟩ ⟨"BatchAdmission", "freeAll", "()V"⟩) ∈ lw_all := lw_g (lw_at lw_ms 2 rfl) rfl
theorem qs3 : (Cond.selects "BatchAdmission" ⟨"BatchAdmission", "fitsBy", "(I)Z"⟩ ⟨"BatchAdmission", "fitsBy", "(I)Z"⟩) ∈ lw_all := lw_g (lw_at lw_ms 3 rfl) rfl
theorem qs4 : (Cond.selects "BatchAdmission" ⟨"BatchAdmission", "arrange", "()V"⟩ ⟨"BatchAdmission", "arrange", "()V"⟩) ∈ lw_all := lw_g (lw_at lw_ms 4 rfl) rfl
theorem qs5 : (Cond.selects "BatchAdmission" ⟨"BatchAdmission", "insertInOrder", "(I)V"⟩ ⟨"BatchAdmission", "insertInOrder", "(I)V"⟩) ∈ lw_all := lw_g (lw_at lw_ms 5 rfl) rfl
theorem qs6 : (Cond.selects "BatchAdmission" ⟨"BatchAdmission", "roomFor", "(II)Z"⟩ ⟨"BatchAdmission", "roomFor", "(II)Z"⟩) ∈ lw_all := lw_g (lw_at lw_ms 6 rfl) rfl
theorem qs7 : (Cond.selects "BatchAdmission" ⟨"BatchAdmission", "nextMachine", "(III)I"⟩ ⟨"BatchAdmission", "nextMachine", "(III)I"⟩) ∈ lw_all := lw_g (lw_at lw_ms 7 rfl) rfl
theorem qs8 : (Cond.selects "BatchAdmission" ⟨"BatchAdmission", "firstWithEnd", "(I)Z"⟩ ⟨"BatchAdmission", "firstWithEnd", "(I)Z"⟩) ∈ lw_all := lw_g (lw_at lw_ms 8 rfl) rfl
theorem qs9 : (Cond.selects "BatchAdmission" ⟨"BatchAdmission", "isHeld", "(I)Z"⟩ ⟨"BatchAdmission", "isHeld", "(I)Z"⟩) ∈ lw_all := lw_g (lw_at lw_ms 9 rfl) rfl
theorem qs10 : (Cond.selects "BatchAdmission" ⟨"BatchAdmission", "makePlan", "()V"⟩ ⟨"BatchAdmission", "makePlan", "()V"⟩) ∈ lw_all := lw_g (lw_at lw_ms 10 rfl) rfl
theorem qs11 : (Cond.selects "BatchAdmission" ⟨"BatchAdmission", "findLeastEnd", "()V"⟩ ⟨"BatchAdmission", "findLeastEnd", "()V"⟩) ∈ lw_all := lw_g (lw_at lw_ms 11 rfl) rfl
theorem qs12 : (Cond.selects "BatchAdmission" ⟨"BatchAdmission", "lowerBound", "()I"⟩ ⟨"BatchAdmission", "lowerBound", "()I"⟩) ∈ lw_all := lw_g (lw_at lw_ms 12 rfl) rfl
theorem qs13 : (Cond.selects "BatchAdmission" ⟨"BatchAdmission", "longestFirst", "()I"⟩ ⟨"BatchAdmission", "longestFirst", "()I"⟩) ∈ lw_all := lw_g (lw_at lw_ms 13 rfl) rfl
theorem qs14 : (Cond.selects "BatchAdmission" ⟨"BatchAdmission", "earliestMachine", "()I"⟩ ⟨"BatchAdmission", "earliestMachine", "()I"⟩) ∈ lw_all := lw_g (lw_at lw_ms 14 rfl) rfl
theorem qs15 : (Cond.selects "BatchAdmission" ⟨"BatchAdmission", "fixJob", "(I)V"⟩ ⟨"BatchAdmission", "fixJob", "(I)V"⟩) ∈ lw_all := lw_g (lw_at lw_ms 15 rfl) rfl
theorem qs16 : (Cond.selects "BatchAdmissionModel" ⟨"BatchAdmissionModel", "most", "()I"⟩ ⟨"BatchAdmissionModel", "most", "()I"⟩) ∈ lw_all := lw_g (lw_at lw_ms 16 rfl) rfl
theorem qs17 : (Cond.selects "BatchAdmissionModel" ⟨"BatchAdmissionModel", "plans", "()I"⟩ ⟨"BatchAdmissionModel", "plans", "()I"⟩) ∈ lw_all := lw_g (lw_at lw_ms 17 rfl) rfl
theorem qs18 : (Cond.selects "BatchAdmissionModel" ⟨"BatchAdmissionModel", "lay", "(I)V"⟩ ⟨"BatchAdmissionModel", "lay", "(I)V"⟩) ∈ lw_all := lw_g (lw_at lw_ms 18 rfl) rfl
theorem qs19 : (Cond.selects "BatchAdmissionModel" ⟨"BatchAdmissionModel", "left", "(I)I"⟩ ⟨"BatchAdmissionModel", "left", "(I)I"⟩) ∈ lw_all := lw_g (lw_at lw_ms 19 rfl) rfl
theorem qs20 : (Cond.selects "BatchAdmissionModel" ⟨"BatchAdmissionModel", "choose", "()I"⟩ ⟨"BatchAdmissionModel", "choose", "()I"⟩) ∈ lw_all := lw_g (lw_at lw_ms 20 rfl) rfl
theorem qs21 : (Cond.selects "BatchAdmissionModel" ⟨"BatchAdmissionModel", "greatest", "()I"⟩ ⟨"BatchAdmissionModel", "greatest", "()I"⟩) ∈ lw_all := lw_g (lw_at lw_ms 21 rfl) rfl
end
section
set_option maxRecDepth 100000
def RJ0 : String := "java/lang/Object"
abbrev cJ0_init : ByteArray := object_method_1_code
def yJ0_init : MethodName := ⟨RJ0, "<init>", "()V"⟩
theorem q31 : (Jvm.Cond.instanceMethod ({ cls := "java/lang/Object", name := "<init>", desc := "()V" } : Jvm.MethodName)) ∈ lw_all := lw_g (lw_at lw_m1 9 rfl) rfl
theorem q32 : (Jvm.Cond.code ({ cls := "java/lang/Object", name := "<init>", desc := "()V" } : Jvm.MethodName) object_method_1_code (1 : Nat) (Option.none : Option Jvm.ClassFile.FieldType)) ∈ lw_all := lw_g (lw_at lw_m1 10 rfl) rfl
def RX0 : String := "BatchAdmissionLaw"
abbrev cX0_cell : ByteArray := method_2_code
def yX0_cell : MethodName := ⟨RX0, "cell", "([II)I"⟩
theorem q22 : (Jvm.Cond.initialized "BatchAdmissionLaw") ∈ lw_all := lw_g (lw_at lw_m1 0 rfl) rfl
theorem q25 : (Jvm.Cond.classLink "BatchAdmissionLaw" (7 : Nat) "BatchAdmission") ∈ lw_all := lw_g (lw_at lw_m1 3 rfl) rfl
theorem q27 : (Jvm.Cond.methodLink "BatchAdmissionLaw" (15 : Nat) ({ cls := "BatchAdmission", name := "<init>", desc := "(II)V" } : Jvm.MethodName)) ∈ lw_all := lw_g (lw_at lw_m1 5 rfl) rfl
theorem q74 : (Jvm.Cond.methodLink "BatchAdmissionLaw" (21 : Nat) ({ cls := "BatchAdmission", name := "offer", desc := "(I)I" } : Jvm.MethodName)) ∈ lw_all := lw_g (lw_at lw_m1 52 rfl) rfl
theorem q115 : (Jvm.Cond.methodLink "BatchAdmissionLaw" (26 : Nat) ({ cls := "BatchAdmission", name := "withdraw", desc := "(I)I" } : Jvm.MethodName)) ∈ lw_all := lw_g (lw_at lw_m1 93 rfl) rfl
theorem q123 : (Jvm.Cond.methodLink "BatchAdmissionLaw" (30 : Nat) ({ cls := "BatchAdmission", name := "ready", desc := "(II)I" } : Jvm.MethodName)) ∈ lw_all := lw_g (lw_at lw_m1 101 rfl) rfl
theorem q127 : (Jvm.Cond.methodLink "BatchAdmissionLaw" (35 : Nat) ({ cls := "BatchAdmission", name := "end", desc := "()I" } : Jvm.MethodName)) ∈ lw_all := lw_g (lw_at lw_m1 105 rfl) rfl
theorem q155 : (Jvm.Cond.methodLink "BatchAdmissionLaw" (40 : Nat) ({ cls := "BatchAdmission", name := "machineOf", desc := "(I)I" } : Jvm.MethodName)) ∈ lw_all := lw_g (lw_at lw_m1 133 rfl) rfl
theorem q159 : (Jvm.Cond.methodLink "BatchAdmissionLaw" (44 : Nat) ({ cls := "BatchAdmission", name := "endOf", desc := "(I)I" } : Jvm.MethodName)) ∈ lw_all := lw_g (lw_at lw_m1 137 rfl) rfl
theorem q163 : (Jvm.Cond.methodLink "BatchAdmissionLaw" (48 : Nat) ({ cls := "BatchAdmission", name := "room", desc := "()I" } : Jvm.MethodName)) ∈ lw_all := lw_g (lw_at lw_m1 141 rfl) rfl
theorem q167 : (Jvm.Cond.methodLink "BatchAdmissionLaw" (52 : Nat) ({ cls := "BatchAdmission", name := "jobs", desc := "()I" } : Jvm.MethodName)) ∈ lw_all := lw_g (lw_at lw_m1 145 rfl) rfl
theorem q171 : (Jvm.Cond.methodLink "BatchAdmissionLaw" (9 : Nat) ({ cls := "BatchAdmissionLaw", name := "cell", desc := "([II)I" } : Jvm.MethodName)) ∈ lw_all := lw_g (lw_at lw_m1 149 rfl) rfl
theorem q172 : (Jvm.Cond.static ({ cls := "BatchAdmissionLaw", name := "cell", desc := "([II)I" } : Jvm.MethodName)) ∈ lw_all := lw_g (lw_at lw_m1 150 rfl) rfl
theorem q173 : (Jvm.Cond.code ({ cls := "BatchAdmissionLaw", name := "cell", desc := "([II)I" } : Jvm.MethodName) method_2_code (2 : Nat) (Option.some Jvm.ClassFile.FieldType.int)) ∈ lw_all := lw_g (lw_at lw_m1 151 rfl) rfl
theorem q174 : (Jvm.Cond.classLink "BatchAdmissionLaw" (18 : Nat) "BatchAdmissionModel") ∈ lw_all := lw_g (lw_at lw_m1 152 rfl) rfl
theorem q176 : (Jvm.Cond.methodLink "BatchAdmissionLaw" (20 : Nat) ({ cls := "BatchAdmissionModel", name := "<init>", desc := "(II)V" } : Jvm.MethodName)) ∈ lw_all := lw_g (lw_at lw_m1 154 rfl) rfl
theorem q203 : (Jvm.Cond.methodLink "BatchAdmissionLaw" (25 : Nat) ({ cls := "BatchAdmissionModel", name := "offer", desc := "(I)I" } : Jvm.MethodName)) ∈ lw_all := lw_g (lw_at lw_m1 181 rfl) rfl
theorem q230 : (Jvm.Cond.methodLink "BatchAdmissionLaw" (29 : Nat) ({ cls := "BatchAdmissionModel", name := "withdraw", desc := "(I)I" } : Jvm.MethodName)) ∈ lw_all := lw_g (lw_at lw_m1 208 rfl) rfl
theorem q234 : (Jvm.Cond.methodLink "BatchAdmissionLaw" (34 : Nat) ({ cls := "BatchAdmissionModel", name := "ready", desc := "(II)I" } : Jvm.MethodName)) ∈ lw_all := lw_g (lw_at lw_m1 212 rfl) rfl
theorem q238 : (Jvm.Cond.methodLink "BatchAdmissionLaw" (39 : Nat) ({ cls := "BatchAdmissionModel", name := "end", desc := "()I" } : Jvm.MethodName)) ∈ lw_all := lw_g (lw_at lw_m1 216 rfl) rfl
theorem q251 : (Jvm.Cond.methodLink "BatchAdmissionLaw" (43 : Nat) ({ cls := "BatchAdmissionModel", name := "machineOf", desc := "(I)I" } : Jvm.MethodName)) ∈ lw_all := lw_g (lw_at lw_m1 229 rfl) rfl
theorem q255 : (Jvm.Cond.methodLink "BatchAdmissionLaw" (47 : Nat) ({ cls := "BatchAdmissionModel", name := "endOf", desc := "(I)I" } : Jvm.MethodName)) ∈ lw_all := lw_g (lw_at lw_m1 233 rfl) rfl
theorem q259 : (Jvm.Cond.methodLink "BatchAdmissionLaw" (51 : Nat) ({ cls := "BatchAdmissionModel", name := "room", desc := "()I" } : Jvm.MethodName)) ∈ lw_all := lw_g (lw_at lw_m1 237 rfl) rfl
theorem q263 : (Jvm.Cond.methodLink "BatchAdmissionLaw" (55 : Nat) ({ cls := "BatchAdmissionModel", name := "jobs", desc := "()I" } : Jvm.MethodName)) ∈ lw_all := lw_g (lw_at lw_m2 1 rfl) rfl
def RX1 : String := "BatchAdmission"
def TX1 : u_T := fun k => match k with
  | 0 => ("BatchAdmission", "machines", "I", true)
  | 1 => ("BatchAdmission", "deadline", "I", true)
  | 2 => ("BatchAdmission", "readyAt", "[I", true)
  | 3 => ("BatchAdmission", "length", "[I", true)
  | 4 => ("BatchAdmission", "fixed", "[I", true)
  | 5 => ("BatchAdmission", "free", "I", false)
  | 6 => ("BatchAdmission", "order", "[I", true)
  | 7 => ("BatchAdmission", "left", "[I", true)
  | 8 => ("BatchAdmission", "at", "[I", true)
  | 9 => ("BatchAdmission", "ends", "[I", true)
  | 10 => ("BatchAdmission", "known", "Z", false)
  | 11 => ("BatchAdmission", "bestEnd", "I", false)
  | _ => ("BatchAdmission", "plan", "[I", true)
def tyX1 : Nat → FieldType := fun k => match k with
  | 0 => .int
  | 1 => .int
  | 2 => .array .int
  | 3 => .array .int
  | 4 => .array .int
  | 5 => .int
  | 6 => .array .int
  | 7 => .array .int
  | 8 => .array .int
  | 9 => .array .int
  | 10 => .boolean
  | 11 => .int
  | _ => .array .int
abbrev wsX10 : List Cond := u_ws RX1 TX1 13
set_option maxRecDepth 100000 in
theorem nmX1 : ∀ a, a < 13 → ∀ b, b < 13 → a ≠ b → (TX1 a).2.1 ≠ (TX1 b).2.1 := by decide +kernel
set_option maxRecDepth 100000 in
theorem tyX1_ok : ∀ k, k < 13 → parseFieldDescriptor (TX1 k).2.2.1 = some (tyX1 k) := by decide +kernel
abbrev cX1_init : ByteArray := prog_1_method_1_code
def yX1_init : MethodName := ⟨RX1, "<init>", "(II)V"⟩
abbrev cX1_offer : ByteArray := prog_1_method_2_code
def yX1_offer : MethodName := ⟨RX1, "offer", "(I)I"⟩
abbrev cX1_freeNumber : ByteArray := prog_1_method_11_code
def yX1_freeNumber : MethodName := ⟨RX1, "freeNumber", "()I"⟩
abbrev cX1_fitsWith : ByteArray := prog_1_method_13_code
def yX1_fitsWith : MethodName := ⟨RX1, "fitsWith", "(I)Z"⟩
abbrev cX1_freeAll : ByteArray := prog_1_method_12_code
def yX1_freeAll : MethodName := ⟨RX1, "freeAll", "()V"⟩
abbrev cX1_fitsBy : ByteArray := prog_1_method_22_code
def yX1_fitsBy : MethodName := ⟨RX1, "fitsBy", "(I)Z"⟩
abbrev cX1_arrange : ByteArray := prog_1_method_20_code
def yX1_arrange : MethodName := ⟨RX1, "arrange", "()V"⟩
abbrev cX1_insertInOrder : ByteArray := prog_1_method_21_code
def yX1_insertInOrder : MethodName := ⟨RX1, "insertInOrder", "(I)V"⟩
abbrev cX1_roomFor : ByteArray := prog_1_method_23_code
def yX1_roomFor : MethodName := ⟨RX1, "roomFor", "(II)Z"⟩
abbrev cX1_nextMachine : ByteArray := prog_1_method_24_code
def yX1_nextMachine : MethodName := ⟨RX1, "nextMachine", "(III)I"⟩
abbrev cX1_firstWithEnd : ByteArray := prog_1_method_25_code
def yX1_firstWithEnd : MethodName := ⟨RX1, "firstWithEnd", "(I)Z"⟩
abbrev cX1_withdraw : ByteArray := prog_1_method_3_code
def yX1_withdraw : MethodName := ⟨RX1, "withdraw", "(I)I"⟩
abbrev cX1_isHeld : ByteArray := prog_1_method_10_code
def yX1_isHeld : MethodName := ⟨RX1, "isHeld", "(I)Z"⟩
abbrev cX1_ready : ByteArray := prog_1_method_4_code
def yX1_ready : MethodName := ⟨RX1, "ready", "(II)I"⟩
abbrev cX1_end : ByteArray := prog_1_method_5_code
def yX1_end : MethodName := ⟨RX1, "end", "()I"⟩
abbrev cX1_makePlan : ByteArray := prog_1_method_14_code
def yX1_makePlan : MethodName := ⟨RX1, "makePlan", "()V"⟩
abbrev cX1_findLeastEnd : ByteArray := prog_1_method_16_code
def yX1_findLeastEnd : MethodName := ⟨RX1, "findLeastEnd", "()V"⟩
abbrev cX1_lowerBound : ByteArray := prog_1_method_17_code
def yX1_lowerBound : MethodName := ⟨RX1, "lowerBound", "()I"⟩
abbrev cX1_longestFirst : ByteArray := prog_1_method_18_code
def yX1_longestFirst : MethodName := ⟨RX1, "longestFirst", "()I"⟩
abbrev cX1_earliestMachine : ByteArray := prog_1_method_19_code
def yX1_earliestMachine : MethodName := ⟨RX1, "earliestMachine", "()I"⟩
abbrev cX1_fixJob : ByteArray := prog_1_method_15_code
def yX1_fixJob : MethodName := ⟨RX1, "fixJob", "(I)V"⟩
abbrev cX1_machineOf : ByteArray := prog_1_method_6_code
def yX1_machineOf : MethodName := ⟨RX1, "machineOf", "(I)I"⟩
abbrev cX1_endOf : ByteArray := prog_1_method_7_code
def yX1_endOf : MethodName := ⟨RX1, "endOf", "(I)I"⟩
abbrev cX1_room : ByteArray := prog_1_method_8_code
def yX1_room : MethodName := ⟨RX1, "room", "()I"⟩
abbrev cX1_jobs : ByteArray := prog_1_method_9_code
def yX1_jobs : MethodName := ⟨RX1, "jobs", "()I"⟩
theorem q23 : (Jvm.Cond.initialized "BatchAdmission") ∈ lw_all := lw_g (lw_at lw_m1 1 rfl) rfl
theorem q26 : (Jvm.Cond.instantiable "BatchAdmission" (13 : Nat)) ∈ lw_all := lw_g (lw_at lw_m1 4 rfl) rfl
theorem q28 : (Jvm.Cond.instanceMethod ({ cls := "BatchAdmission", name := "<init>", desc := "(II)V" } : Jvm.MethodName)) ∈ lw_all := lw_g (lw_at lw_m1 6 rfl) rfl
theorem q29 : (Jvm.Cond.code ({ cls := "BatchAdmission", name := "<init>", desc := "(II)V" } : Jvm.MethodName) prog_1_method_1_code (3 : Nat) (Option.none : Option Jvm.ClassFile.FieldType)) ∈ lw_all := lw_g (lw_at lw_m1 7 rfl) rfl
theorem q30 : (Jvm.Cond.methodLink "BatchAdmission" (1 : Nat) ({ cls := "java/lang/Object", name := "<init>", desc := "()V" } : Jvm.MethodName)) ∈ lw_all := lw_g (lw_at lw_m1 8 rfl) rfl
theorem q33 : (Jvm.Cond.fieldLink "BatchAdmission" (7 : Nat) "BatchAdmission" "machines" "I") ∈ lw_all := lw_g (lw_at lw_m1 11 rfl) rfl
theorem q34 : (Jvm.Cond.fieldLink "BatchAdmission" (13 : Nat) "BatchAdmission" "deadline" "I") ∈ lw_all := lw_g (lw_at lw_m1 12 rfl) rfl
theorem q35 : (Jvm.Cond.fieldLink "BatchAdmission" (16 : Nat) "BatchAdmission" "readyAt" "[I") ∈ lw_all := lw_g (lw_at lw_m1 13 rfl) rfl
theorem q36 : (Jvm.Cond.fieldLink "BatchAdmission" (20 : Nat) "BatchAdmission" "length" "[I") ∈ lw_all := lw_g (lw_at lw_m1 14 rfl) rfl
theorem q37 : (Jvm.Cond.fieldLink "BatchAdmission" (23 : Nat) "BatchAdmission" "fixed" "[I") ∈ lw_all := lw_g (lw_at lw_m1 15 rfl) rfl
theorem q38 : (Jvm.Cond.fieldLink "BatchAdmission" (84 : Nat) "BatchAdmission" "free" "I") ∈ lw_all := lw_g (lw_at lw_m1 16 rfl) rfl
theorem q39 : (Jvm.Cond.fieldLink "BatchAdmission" (26 : Nat) "BatchAdmission" "order" "[I") ∈ lw_all := lw_g (lw_at lw_m1 17 rfl) rfl
theorem q40 : (Jvm.Cond.fieldLink "BatchAdmission" (29 : Nat) "BatchAdmission" "left" "[I") ∈ lw_all := lw_g (lw_at lw_m1 18 rfl) rfl
theorem q41 : (Jvm.Cond.fieldLink "BatchAdmission" (32 : Nat) "BatchAdmission" "at" "[I") ∈ lw_all := lw_g (lw_at lw_m1 19 rfl) rfl
theorem q42 : (Jvm.Cond.fieldLink "BatchAdmission" (35 : Nat) "BatchAdmission" "ends" "[I") ∈ lw_all := lw_g (lw_at lw_m1 20 rfl) rfl
theorem q43 : (Jvm.Cond.fieldLink "BatchAdmission" (49 : Nat) "BatchAdmission" "known" "Z") ∈ lw_all := lw_g (lw_at lw_m1 21 rfl) rfl
theorem q44 : (Jvm.Cond.fieldLink "BatchAdmission" (59 : Nat) "BatchAdmission" "bestEnd" "I") ∈ lw_all := lw_g (lw_at lw_m1 22 rfl) rfl
theorem q45 : (Jvm.Cond.fieldLink "BatchAdmission" (38 : Nat) "BatchAdmission" "plan" "[I") ∈ lw_all := lw_g (lw_at lw_m1 23 rfl) rfl
theorem q46 : (Jvm.Cond.laysFinal "BatchAdmission" "BatchAdmission" "machines" "I") ∈ lw_all := lw_g (lw_at lw_m1 24 rfl) rfl
theorem q47 : (Jvm.Cond.soleField "BatchAdmission" "machines") ∈ lw_all := lw_g (lw_at lw_m1 25 rfl) rfl
theorem q48 : (Jvm.Cond.laysFinal "BatchAdmission" "BatchAdmission" "deadline" "I") ∈ lw_all := lw_g (lw_at lw_m1 26 rfl) rfl
theorem q49 : (Jvm.Cond.soleField "BatchAdmission" "deadline") ∈ lw_all := lw_g (lw_at lw_m1 27 rfl) rfl
theorem q50 : (Jvm.Cond.laysFinal "BatchAdmission" "BatchAdmission" "readyAt" "[I") ∈ lw_all := lw_g (lw_at lw_m1 28 rfl) rfl
theorem q51 : (Jvm.Cond.soleField "BatchAdmission" "readyAt") ∈ lw_all := lw_g (lw_at lw_m1 29 rfl) rfl
theorem q52 : (Jvm.Cond.laysFinal "BatchAdmission" "BatchAdmission" "length" "[I") ∈ lw_all := lw_g (lw_at lw_m1 30 rfl) rfl
theorem q53 : (Jvm.Cond.soleField "BatchAdmission" "length") ∈ lw_all := lw_g (lw_at lw_m1 31 rfl) rfl
theorem q54 : (Jvm.Cond.laysFinal "BatchAdmission" "BatchAdmission" "fixed" "[I") ∈ lw_all := lw_g (lw_at lw_m1 32 rfl) rfl
theorem q55 : (Jvm.Cond.soleField "BatchAdmission" "fixed") ∈ lw_all := lw_g (lw_at lw_m1 33 rfl) rfl
theorem q56 : (Jvm.Cond.lays "BatchAdmission" "BatchAdmission" "free" "I") ∈ lw_all := lw_g (lw_at lw_m1 34 rfl) rfl
theorem q57 : (Jvm.Cond.soleField "BatchAdmission" "free") ∈ lw_all := lw_g (lw_at lw_m1 35 rfl) rfl
theorem q58 : (Jvm.Cond.laysFinal "BatchAdmission" "BatchAdmission" "order" "[I") ∈ lw_all := lw_g (lw_at lw_m1 36 rfl) rfl
theorem q59 : (Jvm.Cond.soleField "BatchAdmission" "order") ∈ lw_all := lw_g (lw_at lw_m1 37 rfl) rfl
theorem q60 : (Jvm.Cond.laysFinal "BatchAdmission" "BatchAdmission" "left" "[I") ∈ lw_all := lw_g (lw_at lw_m1 38 rfl) rfl
theorem q61 : (Jvm.Cond.soleField "BatchAdmission" "left") ∈ lw_all := lw_g (lw_at lw_m1 39 rfl) rfl
theorem q62 : (Jvm.Cond.laysFinal "BatchAdmission" "BatchAdmission" "at" "[I") ∈ lw_all := lw_g (lw_at lw_m1 40 rfl) rfl
theorem q63 : (Jvm.Cond.soleField "BatchAdmission" "at") ∈ lw_all := lw_g (lw_at lw_m1 41 rfl) rfl
theorem q64 : (Jvm.Cond.laysFinal "BatchAdmission" "BatchAdmission" "ends" "[I") ∈ lw_all := lw_g (lw_at lw_m1 42 rfl) rfl
theorem q65 : (Jvm.Cond.soleField "BatchAdmission" "ends") ∈ lw_all := lw_g (lw_at lw_m1 43 rfl) rfl
theorem q66 : (Jvm.Cond.lays "BatchAdmission" "BatchAdmission" "known" "Z") ∈ lw_all := lw_g (lw_at lw_m1 44 rfl) rfl
theorem q67 : (Jvm.Cond.soleField "BatchAdmission" "known") ∈ lw_all := lw_g (lw_at lw_m1 45 rfl) rfl
theorem q68 : (Jvm.Cond.lays "BatchAdmission" "BatchAdmission" "bestEnd" "I") ∈ lw_all := lw_g (lw_at lw_m1 46 rfl) rfl
theorem q69 : (Jvm.Cond.soleField "BatchAdmission" "bestEnd") ∈ lw_all := lw_g (lw_at lw_m1 47 rfl) rfl
theorem q70 : (Jvm.Cond.laysFinal "BatchAdmission" "BatchAdmission" "plan" "[I") ∈ lw_all := lw_g (lw_at lw_m1 48 rfl) rfl
theorem q71 : (Jvm.Cond.soleField "BatchAdmission" "plan") ∈ lw_all := lw_g (lw_at lw_m1 49 rfl) rfl
theorem q72 : (Jvm.Cond.superclass "BatchAdmission" "java/lang/Object") ∈ lw_all := lw_g (lw_at lw_m1 50 rfl) rfl
theorem q75 : (Jvm.Cond.instanceMethod ({ cls := "BatchAdmission", name := "offer", desc := "(I)I" } : Jvm.MethodName)) ∈ lw_all := lw_g (lw_at lw_m1 53 rfl) rfl
theorem q76 : (Jvm.Cond.selects "BatchAdmission" ({ cls := "BatchAdmission", name := "offer", desc := "(I)I" } : Jvm.MethodName) ({ cls := "BatchAdmission", name := "offer", desc := "(I)I" } : Jvm.MethodName)) ∈ lw_all := lw_g (lw_at lw_m1 54 rfl) rfl
theorem q77 : (Jvm.Cond.code ({ cls := "BatchAdmission", name := "offer", desc := "(I)I" } : Jvm.MethodName) prog_1_method_2_code (3 : Nat) (Option.some Jvm.ClassFile.FieldType.int)) ∈ lw_all := lw_g (lw_at lw_m1 55 rfl) rfl
theorem q78 : (Jvm.Cond.methodLink "BatchAdmission" (41 : Nat) ({ cls := "BatchAdmission", name := "freeNumber", desc := "()I" } : Jvm.MethodName)) ∈ lw_all := lw_g (lw_at lw_m1 56 rfl) rfl
theorem q79 : (Jvm.Cond.privateMethod ({ cls := "BatchAdmission", name := "freeNumber", desc := "()I" } : Jvm.MethodName)) ∈ lw_tbl := lw_at lw_m1 57 rfl
theorem q80 : (Jvm.Cond.instanceMethod ({ cls := "BatchAdmission", name := "freeNumber", desc := "()I" } : Jvm.MethodName)) ∈ lw_all := lw_g (lw_at lw_m1 58 rfl) rfl
theorem q81 : (Jvm.Cond.code ({ cls := "BatchAdmission", name := "freeNumber", desc := "()I" } : Jvm.MethodName) prog_1_method_11_code (2 : Nat) (Option.some Jvm.ClassFile.FieldType.int)) ∈ lw_all := lw_g (lw_at lw_m1 59 rfl) rfl
theorem q82 : (Jvm.Cond.methodLink "BatchAdmission" (45 : Nat) ({ cls := "BatchAdmission", name := "fitsWith", desc := "(I)Z" } : Jvm.MethodName)) ∈ lw_all := lw_g (lw_at lw_m1 60 rfl) rfl
theorem q83 : (Jvm.Cond.privateMethod ({ cls := "BatchAdmission", name := "fitsWith", desc := "(I)Z" } : Jvm.MethodName)) ∈ lw_tbl := lw_at lw_m1 61 rfl
theorem q84 : (Jvm.Cond.instanceMethod ({ cls := "BatchAdmission", name := "fitsWith", desc := "(I)Z" } : Jvm.MethodName)) ∈ lw_all := lw_g (lw_at lw_m1 62 rfl) rfl
theorem q85 : (Jvm.Cond.code ({ cls := "BatchAdmission", name := "fitsWith", desc := "(I)Z" } : Jvm.MethodName) prog_1_method_13_code (3 : Nat) (Option.some Jvm.ClassFile.FieldType.boolean)) ∈ lw_all := lw_g (lw_at lw_m1 63 rfl) rfl
theorem q86 : (Jvm.Cond.methodLink "BatchAdmission" (62 : Nat) ({ cls := "BatchAdmission", name := "freeAll", desc := "()V" } : Jvm.MethodName)) ∈ lw_all := lw_g (lw_at lw_m1 64 rfl) rfl
theorem q87 : (Jvm.Cond.privateMethod ({ cls := "BatchAdmission", name := "freeAll", desc := "()V" } : Jvm.MethodName)) ∈ lw_tbl := lw_at lw_m1 65 rfl
theorem q88 : (Jvm.Cond.instanceMethod ({ cls := "BatchAdmission", name := "freeAll", desc := "()V" } : Jvm.MethodName)) ∈ lw_all := lw_g (lw_at lw_m1 66 rfl) rfl
theorem q89 : (Jvm.Cond.code ({ cls := "BatchAdmission", name := "freeAll", desc := "()V" } : Jvm.MethodName) prog_1_method_12_code (2 : Nat) (Option.none : Option Jvm.ClassFile.FieldType)) ∈ lw_all := lw_g (lw_at lw_m1 67 rfl) rfl
theorem q90 : (Jvm.Cond.methodLink "BatchAdmission" (65 : Nat) ({ cls := "BatchAdmission", name := "fitsBy", desc := "(I)Z" } : Jvm.MethodName)) ∈ lw_all := lw_g (lw_at lw_m1 68 rfl) rfl
theorem q91 : (Jvm.Cond.privateMethod ({ cls := "BatchAdmission", name := "fitsBy", desc := "(I)Z" } : Jvm.MethodName)) ∈ lw_tbl := lw_at lw_m1 69 rfl
theorem q92 : (Jvm.Cond.instanceMethod ({ cls := "BatchAdmission", name := "fitsBy", desc := "(I)Z" } : Jvm.MethodName)) ∈ lw_all := lw_g (lw_at lw_m1 70 rfl) rfl
theorem q93 : (Jvm.Cond.code ({ cls := "BatchAdmission", name := "fitsBy", desc := "(I)Z" } : Jvm.MethodName) prog_1_method_22_code (5 : Nat) (Option.some Jvm.ClassFile.FieldType.boolean)) ∈ lw_all := lw_g (lw_at lw_m1 71 rfl) rfl
theorem q94 : (Jvm.Cond.methodLink "BatchAdmission" (81 : Nat) ({ cls := "BatchAdmission", name := "arrange", desc := "()V" } : Jvm.MethodName)) ∈ lw_all := lw_g (lw_at lw_m1 72 rfl) rfl
theorem q95 : (Jvm.Cond.privateMethod ({ cls := "BatchAdmission", name := "arrange", desc := "()V" } : Jvm.MethodName)) ∈ lw_tbl := lw_at lw_m1 73 rfl
theorem q96 : (Jvm.Cond.instanceMethod ({ cls := "BatchAdmission", name := "arrange", desc := "()V" } : Jvm.MethodName)) ∈ lw_all := lw_g (lw_at lw_m1 74 rfl) rfl
theorem q97 : (Jvm.Cond.code ({ cls := "BatchAdmission", name := "arrange", desc := "()V" } : Jvm.MethodName) prog_1_method_20_code (2 : Nat) (Option.none : Option Jvm.ClassFile.FieldType)) ∈ lw_all := lw_g (lw_at lw_m1 75 rfl) rfl
theorem q98 : (Jvm.Cond.methodLink "BatchAdmission" (90 : Nat) ({ cls := "BatchAdmission", name := "insertInOrder", desc := "(I)V" } : Jvm.MethodName)) ∈ lw_all := lw_g (lw_at lw_m1 76 rfl) rfl
theorem q99 : (Jvm.Cond.privateMethod ({ cls := "BatchAdmission", name := "insertInOrder", desc := "(I)V" } : Jvm.MethodName)) ∈ lw_tbl := lw_at lw_m1 77 rfl
theorem q100 : (Jvm.Cond.instanceMethod ({ cls := "BatchAdmission", name := "insertInOrder", desc := "(I)V" } : Jvm.MethodName)) ∈ lw_all := lw_g (lw_at lw_m1 78 rfl) rfl
theorem q101 : (Jvm.Cond.code ({ cls := "BatchAdmission", name := "insertInOrder", desc := "(I)V" } : Jvm.MethodName) prog_1_method_21_code (4 : Nat) (Option.none : Option Jvm.ClassFile.FieldType)) ∈ lw_all := lw_g (lw_at lw_m1 79 rfl) rfl
theorem q102 : (Jvm.Cond.methodLink "BatchAdmission" (93 : Nat) ({ cls := "BatchAdmission", name := "roomFor", desc := "(II)Z" } : Jvm.MethodName)) ∈ lw_all := lw_g (lw_at lw_m1 80 rfl) rfl
theorem q103 : (Jvm.Cond.privateMethod ({ cls := "BatchAdmission", name := "roomFor", desc := "(II)Z" } : Jvm.MethodName)) ∈ lw_tbl := lw_at lw_m1 81 rfl
theorem q104 : (Jvm.Cond.instanceMethod ({ cls := "BatchAdmission", name := "roomFor", desc := "(II)Z" } : Jvm.MethodName)) ∈ lw_all := lw_g (lw_at lw_m1 82 rfl) rfl
theorem q105 : (Jvm.Cond.code ({ cls := "BatchAdmission", name := "roomFor", desc := "(II)Z" } : Jvm.MethodName) prog_1_method_23_code (5 : Nat) (Option.some Jvm.ClassFile.FieldType.boolean)) ∈ lw_all := lw_g (lw_at lw_m1 83 rfl) rfl
theorem q106 : (Jvm.Cond.constant "BatchAdmission" (97 : Nat) (120000 : Int32)) ∈ lw_all := lw_g (lw_at lw_m1 84 rfl) rfl
theorem q107 : (Jvm.Cond.methodLink "BatchAdmission" (98 : Nat) ({ cls := "BatchAdmission", name := "nextMachine", desc := "(III)I" } : Jvm.MethodName)) ∈ lw_all := lw_g (lw_at lw_m1 85 rfl) rfl
theorem q108 : (Jvm.Cond.privateMethod ({ cls := "BatchAdmission", name := "nextMachine", desc := "(III)I" } : Jvm.MethodName)) ∈ lw_tbl := lw_at lw_m1 86 rfl
theorem q109 : (Jvm.Cond.instanceMethod ({ cls := "BatchAdmission", name := "nextMachine", desc := "(III)I" } : Jvm.MethodName)) ∈ lw_all := lw_g (lw_at lw_m1 87 rfl) rfl
theorem q110 : (Jvm.Cond.code ({ cls := "BatchAdmission", name := "nextMachine", desc := "(III)I" } : Jvm.MethodName) prog_1_method_24_code (5 : Nat) (Option.some Jvm.ClassFile.FieldType.int)) ∈ lw_all := lw_g (lw_at lw_m1 88 rfl) rfl
theorem q111 : (Jvm.Cond.methodLink "BatchAdmission" (102 : Nat) ({ cls := "BatchAdmission", name := "firstWithEnd", desc := "(I)Z" } : Jvm.MethodName)) ∈ lw_all := lw_g (lw_at lw_m1 89 rfl) rfl
theorem q112 : (Jvm.Cond.privateMethod ({ cls := "BatchAdmission", name := "firstWithEnd", desc := "(I)Z" } : Jvm.MethodName)) ∈ lw_tbl := lw_at lw_m1 90 rfl
theorem q113 : (Jvm.Cond.instanceMethod ({ cls := "BatchAdmission", name := "firstWithEnd", desc := "(I)Z" } : Jvm.MethodName)) ∈ lw_all := lw_g (lw_at lw_m1 91 rfl) rfl
theorem q114 : (Jvm.Cond.code ({ cls := "BatchAdmission", name := "firstWithEnd", desc := "(I)Z" } : Jvm.MethodName) prog_1_method_25_code (3 : Nat) (Option.some Jvm.ClassFile.FieldType.boolean)) ∈ lw_all := lw_g (lw_at lw_m1 92 rfl) rfl
theorem q116 : (Jvm.Cond.instanceMethod ({ cls := "BatchAdmission", name := "withdraw", desc := "(I)I" } : Jvm.MethodName)) ∈ lw_all := lw_g (lw_at lw_m1 94 rfl) rfl
theorem q117 : (Jvm.Cond.selects "BatchAdmission" ({ cls := "BatchAdmission", name := "withdraw", desc := "(I)I" } : Jvm.MethodName) ({ cls := "BatchAdmission", name := "withdraw", desc := "(I)I" } : Jvm.MethodName)) ∈ lw_all := lw_g (lw_at lw_m1 95 rfl) rfl
theorem q118 : (Jvm.Cond.code ({ cls := "BatchAdmission", name := "withdraw", desc := "(I)I" } : Jvm.MethodName) prog_1_method_3_code (3 : Nat) (Option.some Jvm.ClassFile.FieldType.int)) ∈ lw_all := lw_g (lw_at lw_m1 96 rfl) rfl
theorem q119 : (Jvm.Cond.methodLink "BatchAdmission" (53 : Nat) ({ cls := "BatchAdmission", name := "isHeld", desc := "(I)Z" } : Jvm.MethodName)) ∈ lw_all := lw_g (lw_at lw_m1 97 rfl) rfl
theorem q120 : (Jvm.Cond.privateMethod ({ cls := "BatchAdmission", name := "isHeld", desc := "(I)Z" } : Jvm.MethodName)) ∈ lw_tbl := lw_at lw_m1 98 rfl
theorem q121 : (Jvm.Cond.instanceMethod ({ cls := "BatchAdmission", name := "isHeld", desc := "(I)Z" } : Jvm.MethodName)) ∈ lw_all := lw_g (lw_at lw_m1 99 rfl) rfl
theorem q122 : (Jvm.Cond.code ({ cls := "BatchAdmission", name := "isHeld", desc := "(I)Z" } : Jvm.MethodName) prog_1_method_10_code (2 : Nat) (Option.some Jvm.ClassFile.FieldType.boolean)) ∈ lw_all := lw_g (lw_at lw_m1 100 rfl) rfl
theorem q124 : (Jvm.Cond.instanceMethod ({ cls := "BatchAdmission", name := "ready", desc := "(II)I" } : Jvm.MethodName)) ∈ lw_all := lw_g (lw_at lw_m1 102 rfl) rfl
theorem q125 : (Jvm.Cond.selects "BatchAdmission" ({ cls := "BatchAdmission", name := "ready", desc := "(II)I" } : Jvm.MethodName) ({ cls := "BatchAdmission", name := "ready", desc := "(II)I" } : Jvm.MethodName)) ∈ lw_all := lw_g (lw_at lw_m1 103 rfl) rfl
theorem q126 : (Jvm.Cond.code ({ cls := "BatchAdmission", name := "ready", desc := "(II)I" } : Jvm.MethodName) prog_1_method_4_code (4 : Nat) (Option.some Jvm.ClassFile.FieldType.int)) ∈ lw_all := lw_g (lw_at lw_m1 104 rfl) rfl
theorem q128 : (Jvm.Cond.instanceMethod ({ cls := "BatchAdmission", name := "end", desc := "()I" } : Jvm.MethodName)) ∈ lw_all := lw_g (lw_at lw_m1 106 rfl) rfl
theorem q129 : (Jvm.Cond.selects "BatchAdmission" ({ cls := "BatchAdmission", name := "end", desc := "()I" } : Jvm.MethodName) ({ cls := "BatchAdmission", name := "end", desc := "()I" } : Jvm.MethodName)) ∈ lw_all := lw_g (lw_at lw_m1 107 rfl) rfl
theorem q130 : (Jvm.Cond.code ({ cls := "BatchAdmission", name := "end", desc := "()I" } : Jvm.MethodName) prog_1_method_5_code (1 : Nat) (Option.some Jvm.ClassFile.FieldType.int)) ∈ lw_all := lw_g (lw_at lw_m1 108 rfl) rfl
theorem q131 : (Jvm.Cond.methodLink "BatchAdmission" (56 : Nat) ({ cls := "BatchAdmission", name := "makePlan", desc := "()V" } : Jvm.MethodName)) ∈ lw_all := lw_g (lw_at lw_m1 109 rfl) rfl
theorem q132 : (Jvm.Cond.privateMethod ({ cls := "BatchAdmission", name := "makePlan", desc := "()V" } : Jvm.MethodName)) ∈ lw_tbl := lw_at lw_m1 110 rfl
theorem q133 : (Jvm.Cond.instanceMethod ({ cls := "BatchAdmission", name := "makePlan", desc := "()V" } : Jvm.MethodName)) ∈ lw_all := lw_g (lw_at lw_m1 111 rfl) rfl
theorem q134 : (Jvm.Cond.code ({ cls := "BatchAdmission", name := "makePlan", desc := "()V" } : Jvm.MethodName) prog_1_method_14_code (2 : Nat) (Option.none : Option Jvm.ClassFile.FieldType)) ∈ lw_all := lw_g (lw_at lw_m1 112 rfl) rfl
theorem q135 : (Jvm.Cond.methodLink "BatchAdmission" (68 : Nat) ({ cls := "BatchAdmission", name := "findLeastEnd", desc := "()V" } : Jvm.MethodName)) ∈ lw_all := lw_g (lw_at lw_m1 113 rfl) rfl
theorem q136 : (Jvm.Cond.privateMethod ({ cls := "BatchAdmission", name := "findLeastEnd", desc := "()V" } : Jvm.MethodName)) ∈ lw_tbl := lw_at lw_m1 114 rfl
theorem q137 : (Jvm.Cond.instanceMethod ({ cls := "BatchAdmission", name := "findLeastEnd", desc := "()V" } : Jvm.MethodName)) ∈ lw_all := lw_g (lw_at lw_m1 115 rfl) rfl
theorem q138 : (Jvm.Cond.code ({ cls := "BatchAdmission", name := "findLeastEnd", desc := "()V" } : Jvm.MethodName) prog_1_method_16_code (6 : Nat) (Option.none : Option Jvm.ClassFile.FieldType)) ∈ lw_all := lw_g (lw_at lw_m1 116 rfl) rfl
theorem q139 : (Jvm.Cond.methodLink "BatchAdmission" (75 : Nat) ({ cls := "BatchAdmission", name := "lowerBound", desc := "()I" } : Jvm.MethodName)) ∈ lw_all := lw_g (lw_at lw_m1 117 rfl) rfl
theorem q140 : (Jvm.Cond.privateMethod ({ cls := "BatchAdmission", name := "lowerBound", desc := "()I" } : Jvm.MethodName)) ∈ lw_tbl := lw_at lw_m1 118 rfl
theorem q141 : (Jvm.Cond.instanceMethod ({ cls := "BatchAdmission", name := "lowerBound", desc := "()I" } : Jvm.MethodName)) ∈ lw_all := lw_g (lw_at lw_m1 119 rfl) rfl
theorem q142 : (Jvm.Cond.code ({ cls := "BatchAdmission", name := "lowerBound", desc := "()I" } : Jvm.MethodName) prog_1_method_17_code (6 : Nat) (Option.some Jvm.ClassFile.FieldType.int)) ∈ lw_all := lw_g (lw_at lw_m1 120 rfl) rfl
theorem q143 : (Jvm.Cond.methodLink "BatchAdmission" (78 : Nat) ({ cls := "BatchAdmission", name := "longestFirst", desc := "()I" } : Jvm.MethodName)) ∈ lw_all := lw_g (lw_at lw_m1 121 rfl) rfl
theorem q144 : (Jvm.Cond.privateMethod ({ cls := "BatchAdmission", name := "longestFirst", desc := "()I" } : Jvm.MethodName)) ∈ lw_tbl := lw_at lw_m1 122 rfl
theorem q145 : (Jvm.Cond.instanceMethod ({ cls := "BatchAdmission", name := "longestFirst", desc := "()I" } : Jvm.MethodName)) ∈ lw_all := lw_g (lw_at lw_m1 123 rfl) rfl
theorem q146 : (Jvm.Cond.code ({ cls := "BatchAdmission", name := "longestFirst", desc := "()I" } : Jvm.MethodName) prog_1_method_18_code (4 : Nat) (Option.some Jvm.ClassFile.FieldType.int)) ∈ lw_all := lw_g (lw_at lw_m1 124 rfl) rfl
theorem q147 : (Jvm.Cond.methodLink "BatchAdmission" (87 : Nat) ({ cls := "BatchAdmission", name := "earliestMachine", desc := "()I" } : Jvm.MethodName)) ∈ lw_all := lw_g (lw_at lw_m1 125 rfl) rfl
theorem q148 : (Jvm.Cond.privateMethod ({ cls := "BatchAdmission", name := "earliestMachine", desc := "()I" } : Jvm.MethodName)) ∈ lw_tbl := lw_at lw_m1 126 rfl
theorem q149 : (Jvm.Cond.instanceMethod ({ cls := "BatchAdmission", name := "earliestMachine", desc := "()I" } : Jvm.MethodName)) ∈ lw_all := lw_g (lw_at lw_m1 127 rfl) rfl
theorem q150 : (Jvm.Cond.code ({ cls := "BatchAdmission", name := "earliestMachine", desc := "()I" } : Jvm.MethodName) prog_1_method_19_code (3 : Nat) (Option.some Jvm.ClassFile.FieldType.int)) ∈ lw_all := lw_g (lw_at lw_m1 128 rfl) rfl
theorem q151 : (Jvm.Cond.methodLink "BatchAdmission" (71 : Nat) ({ cls := "BatchAdmission", name := "fixJob", desc := "(I)V" } : Jvm.MethodName)) ∈ lw_all := lw_g (lw_at lw_m1 129 rfl) rfl
theorem q152 : (Jvm.Cond.privateMethod ({ cls := "BatchAdmission", name := "fixJob", desc := "(I)V" } : Jvm.MethodName)) ∈ lw_tbl := lw_at lw_m1 130 rfl
theorem q153 : (Jvm.Cond.instanceMethod ({ cls := "BatchAdmission", name := "fixJob", desc := "(I)V" } : Jvm.MethodName)) ∈ lw_all := lw_g (lw_at lw_m1 131 rfl) rfl
theorem q154 : (Jvm.Cond.code ({ cls := "BatchAdmission", name := "fixJob", desc := "(I)V" } : Jvm.MethodName) prog_1_method_15_code (4 : Nat) (Option.none : Option Jvm.ClassFile.FieldType)) ∈ lw_all := lw_g (lw_at lw_m1 132 rfl) rfl
theorem q156 : (Jvm.Cond.instanceMethod ({ cls := "BatchAdmission", name := "machineOf", desc := "(I)I" } : Jvm.MethodName)) ∈ lw_all := lw_g (lw_at lw_m1 134 rfl) rfl
theorem q157 : (Jvm.Cond.selects "BatchAdmission" ({ cls := "BatchAdmission", name := "machineOf", desc := "(I)I" } : Jvm.MethodName) ({ cls := "BatchAdmission", name := "machineOf", desc := "(I)I" } : Jvm.MethodName)) ∈ lw_all := lw_g (lw_at lw_m1 135 rfl) rfl
theorem q158 : (Jvm.Cond.code ({ cls := "BatchAdmission", name := "machineOf", desc := "(I)I" } : Jvm.MethodName) prog_1_method_6_code (2 : Nat) (Option.some Jvm.ClassFile.FieldType.int)) ∈ lw_all := lw_g (lw_at lw_m1 136 rfl) rfl
theorem q160 : (Jvm.Cond.instanceMethod ({ cls := "BatchAdmission", name := "endOf", desc := "(I)I" } : Jvm.MethodName)) ∈ lw_all := lw_g (lw_at lw_m1 138 rfl) rfl
theorem q161 : (Jvm.Cond.selects "BatchAdmission" ({ cls := "BatchAdmission", name := "endOf", desc := "(I)I" } : Jvm.MethodName) ({ cls := "BatchAdmission", name := "endOf", desc := "(I)I" } : Jvm.MethodName)) ∈ lw_all := lw_g (lw_at lw_m1 139 rfl) rfl
theorem q162 : (Jvm.Cond.code ({ cls := "BatchAdmission", name := "endOf", desc := "(I)I" } : Jvm.MethodName) prog_1_method_7_code (4 : Nat) (Option.some Jvm.ClassFile.FieldType.int)) ∈ lw_all := lw_g (lw_at lw_m1 140 rfl) rfl
theorem q164 : (Jvm.Cond.instanceMethod ({ cls := "BatchAdmission", name := "room", desc := "()I" } : Jvm.MethodName)) ∈ lw_all := lw_g (lw_at lw_m1 142 rfl) rfl
theorem q165 : (Jvm.Cond.selects "BatchAdmission" ({ cls := "BatchAdmission", name := "room", desc := "()I" } : Jvm.MethodName) ({ cls := "BatchAdmission", name := "room", desc := "()I" } : Jvm.MethodName)) ∈ lw_all := lw_g (lw_at lw_m1 143 rfl) rfl
theorem q166 : (Jvm.Cond.code ({ cls := "BatchAdmission", name := "room", desc := "()I" } : Jvm.MethodName) prog_1_method_8_code (5 : Nat) (Option.some Jvm.ClassFile.FieldType.int)) ∈ lw_all := lw_g (lw_at lw_m1 144 rfl) rfl
theorem q168 : (Jvm.Cond.instanceMethod ({ cls := "BatchAdmission", name := "jobs", desc := "()I" } : Jvm.MethodName)) ∈ lw_all := lw_g (lw_at lw_m1 146 rfl) rfl
theorem q169 : (Jvm.Cond.selects "BatchAdmission" ({ cls := "BatchAdmission", name := "jobs", desc := "()I" } : Jvm.MethodName) ({ cls := "BatchAdmission", name := "jobs", desc := "()I" } : Jvm.MethodName)) ∈ lw_all := lw_g (lw_at lw_m1 147 rfl) rfl
theorem q170 : (Jvm.Cond.code ({ cls := "BatchAdmission", name := "jobs", desc := "()I" } : Jvm.MethodName) prog_1_method_9_code (3 : Nat) (Option.some Jvm.ClassFile.FieldType.int)) ∈ lw_all := lw_g (lw_at lw_m1 148 rfl) rfl
theorem in_X1 : ∀ w ∈ wsX10, w ∈ lw_all := lw_in wsX10 [46, 48, 50, 52, 54, 56, 58, 60, 62, 64, 66, 68, 70] (by decide +kernel) (by decide +kernel)
def RX2 : String := "BatchAdmissionModel"
def TX2 : u_T := fun k => match k with
  | 0 => ("BatchAdmissionModel", "machines", "I", false)
  | 1 => ("BatchAdmissionModel", "deadline", "I", false)
  | 2 => ("BatchAdmissionModel", "readyAt", "[I", true)
  | 3 => ("BatchAdmissionModel", "held", "[Z", true)
  | 4 => ("BatchAdmissionModel", "length", "[I", true)
  | 5 => ("BatchAdmissionModel", "given", "[I", true)
  | _ => ("BatchAdmissionModel", "ends", "[I", true)
def tyX2 : Nat → FieldType := fun k => match k with
  | 0 => .int
  | 1 => .int
  | 2 => .array .int
  | 3 => .array .boolean
  | 4 => .array .int
  | 5 => .array .int
  | _ => .array .int
abbrev wsX20 : List Cond := u_ws RX2 TX2 7
theorem nmX2 : ∀ a, a < 7 → ∀ b, b < 7 → a ≠ b → (TX2 a).2.1 ≠ (TX2 b).2.1 := by decide +kernel
theorem tyX2_ok : ∀ k, k < 7 → parseFieldDescriptor (TX2 k).2.2.1 = some (tyX2 k) := by decide +kernel
abbrev cX2_init : ByteArray := prog_3_method_1_code
def yX2_init : MethodName := ⟨RX2, "<init>", "(II)V"⟩
abbrev cX2_offer : ByteArray := prog_3_method_9_code
def yX2_offer : MethodName := ⟨RX2, "offer", "(I)I"⟩
abbrev cX2_jobs : ByteArray := prog_3_method_16_code
def yX2_jobs : MethodName := ⟨RX2, "jobs", "()I"⟩
abbrev cX2_most : ByteArray := prog_3_method_8_code
def yX2_most : MethodName := ⟨RX2, "most", "()I"⟩
abbrev cX2_plans : ByteArray := prog_3_method_3_code
def yX2_plans : MethodName := ⟨RX2, "plans", "()I"⟩
abbrev cX2_power : ByteArray := prog_3_method_2_code
def yX2_power : MethodName := ⟨RX2, "power", "(II)I"⟩
abbrev cX2_lay : ByteArray := prog_3_method_4_code
def yX2_lay : MethodName := ⟨RX2, "lay", "(I)V"⟩
abbrev cX2_left : ByteArray := prog_3_method_7_code
def yX2_left : MethodName := ⟨RX2, "left", "(I)I"⟩
abbrev cX2_withdraw : ByteArray := prog_3_method_10_code
def yX2_withdraw : MethodName := ⟨RX2, "withdraw", "(I)I"⟩
abbrev cX2_ready : ByteArray := prog_3_method_11_code
def yX2_ready : MethodName := ⟨RX2, "ready", "(II)I"⟩
abbrev cX2_end : ByteArray := prog_3_method_12_code
def yX2_end : MethodName := ⟨RX2, "end", "()I"⟩
abbrev cX2_choose : ByteArray := prog_3_method_6_code
def yX2_choose : MethodName := ⟨RX2, "choose", "()I"⟩
abbrev cX2_greatest : ByteArray := prog_3_method_5_code
def yX2_greatest : MethodName := ⟨RX2, "greatest", "()I"⟩
abbrev cX2_machineOf : ByteArray := prog_3_method_13_code
def yX2_machineOf : MethodName := ⟨RX2, "machineOf", "(I)I"⟩
abbrev cX2_endOf : ByteArray := prog_3_method_14_code
def yX2_endOf : MethodName := ⟨RX2, "endOf", "(I)I"⟩
abbrev cX2_room : ByteArray := prog_3_method_15_code
def yX2_room : MethodName := ⟨RX2, "room", "()I"⟩
theorem q24 : (Jvm.Cond.initialized "BatchAdmissionModel") ∈ lw_all := lw_g (lw_at lw_m1 2 rfl) rfl
theorem q175 : (Jvm.Cond.instantiable "BatchAdmissionModel" (7 : Nat)) ∈ lw_all := lw_g (lw_at lw_m1 153 rfl) rfl
theorem q177 : (Jvm.Cond.instanceMethod ({ cls := "BatchAdmissionModel", name := "<init>", desc := "(II)V" } : Jvm.MethodName)) ∈ lw_all := lw_g (lw_at lw_m1 155 rfl) rfl
theorem q178 : (Jvm.Cond.code ({ cls := "BatchAdmissionModel", name := "<init>", desc := "(II)V" } : Jvm.MethodName) prog_3_method_1_code (3 : Nat) (Option.none : Option Jvm.ClassFile.FieldType)) ∈ lw_all := lw_g (lw_at lw_m1 156 rfl) rfl
theorem q179 : (Jvm.Cond.methodLink "BatchAdmissionModel" (1 : Nat) ({ cls := "java/lang/Object", name := "<init>", desc := "()V" } : Jvm.MethodName)) ∈ lw_all := lw_g (lw_at lw_m1 157 rfl) rfl
theorem q180 : (Jvm.Cond.fieldLink "BatchAdmissionModel" (26 : Nat) "BatchAdmissionModel" "machines" "I") ∈ lw_all := lw_g (lw_at lw_m1 158 rfl) rfl
theorem q181 : (Jvm.Cond.fieldLink "BatchAdmissionModel" (30 : Nat) "BatchAdmissionModel" "deadline" "I") ∈ lw_all := lw_g (lw_at lw_m1 159 rfl) rfl
theorem q182 : (Jvm.Cond.fieldLink "BatchAdmissionModel" (7 : Nat) "BatchAdmissionModel" "readyAt" "[I") ∈ lw_all := lw_g (lw_at lw_m1 160 rfl) rfl
theorem q183 : (Jvm.Cond.fieldLink "BatchAdmissionModel" (13 : Nat) "BatchAdmissionModel" "held" "[Z") ∈ lw_all := lw_g (lw_at lw_m1 161 rfl) rfl
theorem q184 : (Jvm.Cond.fieldLink "BatchAdmissionModel" (17 : Nat) "BatchAdmissionModel" "length" "[I") ∈ lw_all := lw_g (lw_at lw_m1 162 rfl) rfl
theorem q185 : (Jvm.Cond.fieldLink "BatchAdmissionModel" (20 : Nat) "BatchAdmissionModel" "given" "[I") ∈ lw_all := lw_g (lw_at lw_m1 163 rfl) rfl
theorem q186 : (Jvm.Cond.fieldLink "BatchAdmissionModel" (23 : Nat) "BatchAdmissionModel" "ends" "[I") ∈ lw_all := lw_g (lw_at lw_m1 164 rfl) rfl
theorem q187 : (Jvm.Cond.lays "BatchAdmissionModel" "BatchAdmissionModel" "machines" "I") ∈ lw_all := lw_g (lw_at lw_m1 165 rfl) rfl
theorem q188 : (Jvm.Cond.soleField "BatchAdmissionModel" "machines") ∈ lw_all := lw_g (lw_at lw_m1 166 rfl) rfl
theorem q189 : (Jvm.Cond.lays "BatchAdmissionModel" "BatchAdmissionModel" "deadline" "I") ∈ lw_all := lw_g (lw_at lw_m1 167 rfl) rfl
theorem q190 : (Jvm.Cond.soleField "BatchAdmissionModel" "deadline") ∈ lw_all := lw_g (lw_at lw_m1 168 rfl) rfl
theorem q191 : (Jvm.Cond.laysFinal "BatchAdmissionModel" "BatchAdmissionModel" "readyAt" "[I") ∈ lw_all := lw_g (lw_at lw_m1 169 rfl) rfl
theorem q192 : (Jvm.Cond.soleField "BatchAdmissionModel" "readyAt") ∈ lw_all := lw_g (lw_at lw_m1 170 rfl) rfl
theorem q193 : (Jvm.Cond.laysFinal "BatchAdmissionModel" "BatchAdmissionModel" "held" "[Z") ∈ lw_all := lw_g (lw_at lw_m1 171 rfl) rfl
theorem q194 : (Jvm.Cond.soleField "BatchAdmissionModel" "held") ∈ lw_all := lw_g (lw_at lw_m1 172 rfl) rfl
theorem q195 : (Jvm.Cond.laysFinal "BatchAdmissionModel" "BatchAdmissionModel" "length" "[I") ∈ lw_all := lw_g (lw_at lw_m1 173 rfl) rfl
theorem q196 : (Jvm.Cond.soleField "BatchAdmissionModel" "length") ∈ lw_all := lw_g (lw_at lw_m1 174 rfl) rfl
theorem q197 : (Jvm.Cond.laysFinal "BatchAdmissionModel" "BatchAdmissionModel" "given" "[I") ∈ lw_all := lw_g (lw_at lw_m1 175 rfl) rfl
theorem q198 : (Jvm.Cond.soleField "BatchAdmissionModel" "given") ∈ lw_all := lw_g (lw_at lw_m1 176 rfl) rfl
theorem q199 : (Jvm.Cond.laysFinal "BatchAdmissionModel" "BatchAdmissionModel" "ends" "[I") ∈ lw_all := lw_g (lw_at lw_m1 177 rfl) rfl
theorem q200 : (Jvm.Cond.soleField "BatchAdmissionModel" "ends") ∈ lw_all := lw_g (lw_at lw_m1 178 rfl) rfl
theorem q201 : (Jvm.Cond.superclass "BatchAdmissionModel" "java/lang/Object") ∈ lw_all := lw_g (lw_at lw_m1 179 rfl) rfl
theorem q204 : (Jvm.Cond.instanceMethod ({ cls := "BatchAdmissionModel", name := "offer", desc := "(I)I" } : Jvm.MethodName)) ∈ lw_all := lw_g (lw_at lw_m1 182 rfl) rfl
theorem q205 : (Jvm.Cond.selects "BatchAdmissionModel" ({ cls := "BatchAdmissionModel", name := "offer", desc := "(I)I" } : Jvm.MethodName) ({ cls := "BatchAdmissionModel", name := "offer", desc := "(I)I" } : Jvm.MethodName)) ∈ lw_all := lw_g (lw_at lw_m1 183 rfl) rfl
theorem q206 : (Jvm.Cond.code ({ cls := "BatchAdmissionModel", name := "offer", desc := "(I)I" } : Jvm.MethodName) prog_3_method_9_code (3 : Nat) (Option.some Jvm.ClassFile.FieldType.int)) ∈ lw_all := lw_g (lw_at lw_m1 184 rfl) rfl
theorem q207 : (Jvm.Cond.methodLink "BatchAdmissionModel" (33 : Nat) ({ cls := "BatchAdmissionModel", name := "jobs", desc := "()I" } : Jvm.MethodName)) ∈ lw_all := lw_g (lw_at lw_m1 185 rfl) rfl
theorem q208 : (Jvm.Cond.instanceMethod ({ cls := "BatchAdmissionModel", name := "jobs", desc := "()I" } : Jvm.MethodName)) ∈ lw_all := lw_g (lw_at lw_m1 186 rfl) rfl
theorem q209 : (Jvm.Cond.selects "BatchAdmissionModel" ({ cls := "BatchAdmissionModel", name := "jobs", desc := "()I" } : Jvm.MethodName) ({ cls := "BatchAdmissionModel", name := "jobs", desc := "()I" } : Jvm.MethodName)) ∈ lw_all := lw_g (lw_at lw_m1 187 rfl) rfl
theorem q210 : (Jvm.Cond.code ({ cls := "BatchAdmissionModel", name := "jobs", desc := "()I" } : Jvm.MethodName) prog_3_method_16_code (3 : Nat) (Option.some Jvm.ClassFile.FieldType.int)) ∈ lw_all := lw_g (lw_at lw_m1 188 rfl) rfl
theorem q211 : (Jvm.Cond.methodLink "BatchAdmissionModel" (56 : Nat) ({ cls := "BatchAdmissionModel", name := "most", desc := "()I" } : Jvm.MethodName)) ∈ lw_all := lw_g (lw_at lw_m1 189 rfl) rfl
theorem q212 : (Jvm.Cond.privateMethod ({ cls := "BatchAdmissionModel", name := "most", desc := "()I" } : Jvm.MethodName)) ∈ lw_tbl := lw_at lw_m1 190 rfl
theorem q213 : (Jvm.Cond.instanceMethod ({ cls := "BatchAdmissionModel", name := "most", desc := "()I" } : Jvm.MethodName)) ∈ lw_all := lw_g (lw_at lw_m1 191 rfl) rfl
theorem q214 : (Jvm.Cond.code ({ cls := "BatchAdmissionModel", name := "most", desc := "()I" } : Jvm.MethodName) prog_3_method_8_code (6 : Nat) (Option.some Jvm.ClassFile.FieldType.int)) ∈ lw_all := lw_g (lw_at lw_m1 192 rfl) rfl
theorem q215 : (Jvm.Cond.methodLink "BatchAdmissionModel" (42 : Nat) ({ cls := "BatchAdmissionModel", name := "plans", desc := "()I" } : Jvm.MethodName)) ∈ lw_all := lw_g (lw_at lw_m1 193 rfl) rfl
theorem q216 : (Jvm.Cond.privateMethod ({ cls := "BatchAdmissionModel", name := "plans", desc := "()I" } : Jvm.MethodName)) ∈ lw_tbl := lw_at lw_m1 194 rfl
theorem q217 : (Jvm.Cond.instanceMethod ({ cls := "BatchAdmissionModel", name := "plans", desc := "()I" } : Jvm.MethodName)) ∈ lw_all := lw_g (lw_at lw_m1 195 rfl) rfl
theorem q218 : (Jvm.Cond.code ({ cls := "BatchAdmissionModel", name := "plans", desc := "()I" } : Jvm.MethodName) prog_3_method_3_code (2 : Nat) (Option.some Jvm.ClassFile.FieldType.int)) ∈ lw_all := lw_g (lw_at lw_m1 196 rfl) rfl
theorem q219 : (Jvm.Cond.methodLink "BatchAdmissionModel" (37 : Nat) ({ cls := "BatchAdmissionModel", name := "power", desc := "(II)I" } : Jvm.MethodName)) ∈ lw_all := lw_g (lw_at lw_m1 197 rfl) rfl
theorem q220 : (Jvm.Cond.static ({ cls := "BatchAdmissionModel", name := "power", desc := "(II)I" } : Jvm.MethodName)) ∈ lw_all := lw_g (lw_at lw_m1 198 rfl) rfl
theorem q221 : (Jvm.Cond.code ({ cls := "BatchAdmissionModel", name := "power", desc := "(II)I" } : Jvm.MethodName) prog_3_method_2_code (4 : Nat) (Option.some Jvm.ClassFile.FieldType.int)) ∈ lw_all := lw_g (lw_at lw_m1 199 rfl) rfl
theorem q222 : (Jvm.Cond.methodLink "BatchAdmissionModel" (45 : Nat) ({ cls := "BatchAdmissionModel", name := "lay", desc := "(I)V" } : Jvm.MethodName)) ∈ lw_all := lw_g (lw_at lw_m1 200 rfl) rfl
theorem q223 : (Jvm.Cond.privateMethod ({ cls := "BatchAdmissionModel", name := "lay", desc := "(I)V" } : Jvm.MethodName)) ∈ lw_tbl := lw_at lw_m1 201 rfl
theorem q224 : (Jvm.Cond.instanceMethod ({ cls := "BatchAdmissionModel", name := "lay", desc := "(I)V" } : Jvm.MethodName)) ∈ lw_all := lw_g (lw_at lw_m1 202 rfl) rfl
theorem q225 : (Jvm.Cond.code ({ cls := "BatchAdmissionModel", name := "lay", desc := "(I)V" } : Jvm.MethodName) prog_3_method_4_code (4 : Nat) (Option.none : Option Jvm.ClassFile.FieldType)) ∈ lw_all := lw_g (lw_at lw_m1 203 rfl) rfl
theorem q226 : (Jvm.Cond.methodLink "BatchAdmissionModel" (52 : Nat) ({ cls := "BatchAdmissionModel", name := "left", desc := "(I)I" } : Jvm.MethodName)) ∈ lw_all := lw_g (lw_at lw_m1 204 rfl) rfl
theorem q227 : (Jvm.Cond.privateMethod ({ cls := "BatchAdmissionModel", name := "left", desc := "(I)I" } : Jvm.MethodName)) ∈ lw_tbl := lw_at lw_m1 205 rfl
theorem q228 : (Jvm.Cond.instanceMethod ({ cls := "BatchAdmissionModel", name := "left", desc := "(I)I" } : Jvm.MethodName)) ∈ lw_all := lw_g (lw_at lw_m1 206 rfl) rfl
theorem q229 : (Jvm.Cond.code ({ cls := "BatchAdmissionModel", name := "left", desc := "(I)I" } : Jvm.MethodName) prog_3_method_7_code (3 : Nat) (Option.some Jvm.ClassFile.FieldType.int)) ∈ lw_all := lw_g (lw_at lw_m1 207 rfl) rfl
theorem q231 : (Jvm.Cond.instanceMethod ({ cls := "BatchAdmissionModel", name := "withdraw", desc := "(I)I" } : Jvm.MethodName)) ∈ lw_all := lw_g (lw_at lw_m1 209 rfl) rfl
theorem q232 : (Jvm.Cond.selects "BatchAdmissionModel" ({ cls := "BatchAdmissionModel", name := "withdraw", desc := "(I)I" } : Jvm.MethodName) ({ cls := "BatchAdmissionModel", name := "withdraw", desc := "(I)I" } : Jvm.MethodName)) ∈ lw_all := lw_g (lw_at lw_m1 210 rfl) rfl
theorem q233 : (Jvm.Cond.code ({ cls := "BatchAdmissionModel", name := "withdraw", desc := "(I)I" } : Jvm.MethodName) prog_3_method_10_code (2 : Nat) (Option.some Jvm.ClassFile.FieldType.int)) ∈ lw_all := lw_g (lw_at lw_m1 211 rfl) rfl
theorem q235 : (Jvm.Cond.instanceMethod ({ cls := "BatchAdmissionModel", name := "ready", desc := "(II)I" } : Jvm.MethodName)) ∈ lw_all := lw_g (lw_at lw_m1 213 rfl) rfl
theorem q236 : (Jvm.Cond.selects "BatchAdmissionModel" ({ cls := "BatchAdmissionModel", name := "ready", desc := "(II)I" } : Jvm.MethodName) ({ cls := "BatchAdmissionModel", name := "ready", desc := "(II)I" } : Jvm.MethodName)) ∈ lw_all := lw_g (lw_at lw_m1 214 rfl) rfl
theorem q237 : (Jvm.Cond.code ({ cls := "BatchAdmissionModel", name := "ready", desc := "(II)I" } : Jvm.MethodName) prog_3_method_11_code (4 : Nat) (Option.some Jvm.ClassFile.FieldType.int)) ∈ lw_all := lw_g (lw_at lw_m1 215 rfl) rfl
theorem q239 : (Jvm.Cond.instanceMethod ({ cls := "BatchAdmissionModel", name := "end", desc := "()I" } : Jvm.MethodName)) ∈ lw_all := lw_g (lw_at lw_m1 217 rfl) rfl
theorem q240 : (Jvm.Cond.selects "BatchAdmissionModel" ({ cls := "BatchAdmissionModel", name := "end", desc := "()I" } : Jvm.MethodName) ({ cls := "BatchAdmissionModel", name := "end", desc := "()I" } : Jvm.MethodName)) ∈ lw_all := lw_g (lw_at lw_m1 218 rfl) rfl
theorem q241 : (Jvm.Cond.code ({ cls := "BatchAdmissionModel", name := "end", desc := "()I" } : Jvm.MethodName) prog_3_method_12_code (1 : Nat) (Option.some Jvm.ClassFile.FieldType.int)) ∈ lw_all := lw_g (lw_at lw_m1 219 rfl) rfl
theorem q242 : (Jvm.Cond.methodLink "BatchAdmissionModel" (59 : Nat) ({ cls := "BatchAdmissionModel", name := "choose", desc := "()I" } : Jvm.MethodName)) ∈ lw_all := lw_g (lw_at lw_m1 220 rfl) rfl
theorem q243 : (Jvm.Cond.privateMethod ({ cls := "BatchAdmissionModel", name := "choose", desc := "()I" } : Jvm.MethodName)) ∈ lw_tbl := lw_at lw_m1 221 rfl
theorem q244 : (Jvm.Cond.instanceMethod ({ cls := "BatchAdmissionModel", name := "choose", desc := "()I" } : Jvm.MethodName)) ∈ lw_all := lw_g (lw_at lw_m1 222 rfl) rfl
theorem q245 : (Jvm.Cond.code ({ cls := "BatchAdmissionModel", name := "choose", desc := "()I" } : Jvm.MethodName) prog_3_method_6_code (6 : Nat) (Option.some Jvm.ClassFile.FieldType.int)) ∈ lw_all := lw_g (lw_at lw_m1 223 rfl) rfl
theorem q246 : (Jvm.Cond.constant "BatchAdmissionModel" (41 : Nat) (100000 : Int32)) ∈ lw_all := lw_g (lw_at lw_m1 224 rfl) rfl
theorem q247 : (Jvm.Cond.methodLink "BatchAdmissionModel" (49 : Nat) ({ cls := "BatchAdmissionModel", name := "greatest", desc := "()I" } : Jvm.MethodName)) ∈ lw_all := lw_g (lw_at lw_m1 225 rfl) rfl
theorem q248 : (Jvm.Cond.privateMethod ({ cls := "BatchAdmissionModel", name := "greatest", desc := "()I" } : Jvm.MethodName)) ∈ lw_tbl := lw_at lw_m1 226 rfl
theorem q249 : (Jvm.Cond.instanceMethod ({ cls := "BatchAdmissionModel", name := "greatest", desc := "()I" } : Jvm.MethodName)) ∈ lw_all := lw_g (lw_at lw_m1 227 rfl) rfl
theorem q250 : (Jvm.Cond.code ({ cls := "BatchAdmissionModel", name := "greatest", desc := "()I" } : Jvm.MethodName) prog_3_method_5_code (3 : Nat) (Option.some Jvm.ClassFile.FieldType.int)) ∈ lw_all := lw_g (lw_at lw_m1 228 rfl) rfl
theorem q252 : (Jvm.Cond.instanceMethod ({ cls := "BatchAdmissionModel", name := "machineOf", desc := "(I)I" } : Jvm.MethodName)) ∈ lw_all := lw_g (lw_at lw_m1 230 rfl) rfl
theorem q253 : (Jvm.Cond.selects "BatchAdmissionModel" ({ cls := "BatchAdmissionModel", name := "machineOf", desc := "(I)I" } : Jvm.MethodName) ({ cls := "BatchAdmissionModel", name := "machineOf", desc := "(I)I" } : Jvm.MethodName)) ∈ lw_all := lw_g (lw_at lw_m1 231 rfl) rfl
theorem q254 : (Jvm.Cond.code ({ cls := "BatchAdmissionModel", name := "machineOf", desc := "(I)I" } : Jvm.MethodName) prog_3_method_13_code (2 : Nat) (Option.some Jvm.ClassFile.FieldType.int)) ∈ lw_all := lw_g (lw_at lw_m1 232 rfl) rfl
theorem q256 : (Jvm.Cond.instanceMethod ({ cls := "BatchAdmissionModel", name := "endOf", desc := "(I)I" } : Jvm.MethodName)) ∈ lw_all := lw_g (lw_at lw_m1 234 rfl) rfl
theorem q257 : (Jvm.Cond.selects "BatchAdmissionModel" ({ cls := "BatchAdmissionModel", name := "endOf", desc := "(I)I" } : Jvm.MethodName) ({ cls := "BatchAdmissionModel", name := "endOf", desc := "(I)I" } : Jvm.MethodName)) ∈ lw_all := lw_g (lw_at lw_m1 235 rfl) rfl
theorem q258 : (Jvm.Cond.code ({ cls := "BatchAdmissionModel", name := "endOf", desc := "(I)I" } : Jvm.MethodName) prog_3_method_14_code (2 : Nat) (Option.some Jvm.ClassFile.FieldType.int)) ∈ lw_all := lw_g (lw_at lw_m1 236 rfl) rfl
theorem q260 : (Jvm.Cond.instanceMethod ({ cls := "BatchAdmissionModel", name := "room", desc := "()I" } : Jvm.MethodName)) ∈ lw_all := lw_g (lw_at lw_m1 238 rfl) rfl
theorem q261 : (Jvm.Cond.selects "BatchAdmissionModel" ({ cls := "BatchAdmissionModel", name := "room", desc := "()I" } : Jvm.MethodName) ({ cls := "BatchAdmissionModel", name := "room", desc := "()I" } : Jvm.MethodName)) ∈ lw_all := lw_g (lw_at lw_m1 239 rfl) rfl
theorem q262 : (Jvm.Cond.code ({ cls := "BatchAdmissionModel", name := "room", desc := "()I" } : Jvm.MethodName) prog_3_method_15_code (1 : Nat) (Option.some Jvm.ClassFile.FieldType.int)) ∈ lw_all := lw_g (lw_at lw_m2 0 rfl) rfl
theorem in_X2 : ∀ w ∈ wsX20, w ∈ lw_all := lw_in wsX20 [187, 189, 191, 193, 195, 197, 199] (by decide +kernel) (by decide +kernel)
abbrev cL_law : ByteArray := code
theorem q73 : (Jvm.Cond.arrayClass Jvm.ClassFile.FieldType.int) ∈ lw_all := lw_g (lw_at lw_m1 51 rfl) rfl
theorem q202 : (Jvm.Cond.arrayClass Jvm.ClassFile.FieldType.boolean) ∈ lw_all := lw_g (lw_at lw_m1 180 rfl) rfl
end
section
set_option maxRecDepth 100000
theorem dJ0_init_0 : decode cJ0_init 0 = .ok (.return_, 1) := by decide +kernel
theorem dX0_cell_0 : decode cX0_cell 0 = .ok (.iload_n 1, 1) := by decide +kernel
theorem dX0_cell_1 : decode cX0_cell 1 = .ok (.aload_n 0, 1) := by decide +kernel
theorem dX0_cell_2 : decode cX0_cell 2 = .ok (.arraylength, 1) := by decide +kernel
theorem dX0_cell_3 : decode cX0_cell 3 = .ok (.if_icmp .ge 9, 3) := by decide +kernel
theorem dX0_cell_6 : decode cX0_cell 6 = .ok (.aload_n 0, 1) := by decide +kernel
theorem dX0_cell_7 : decode cX0_cell 7 = .ok (.iload_n 1, 1) := by decide +kernel
theorem dX0_cell_8 : decode cX0_cell 8 = .ok (.iaload, 1) := by decide +kernel
theorem dX0_cell_9 : decode cX0_cell 9 = .ok (.goto 4, 3) := by decide +kernel
theorem dX0_cell_12 : decode cX0_cell 12 = .ok (.iconst 0, 1) := by decide +kernel
theorem dX0_cell_13 : decode cX0_cell 13 = .ok (.ireturn, 1) := by decide +kernel
theorem dX1_init_0 : decode cX1_init 0 = .ok (.aload_n 0, 1) := by decide +kernel
theorem dX1_init_1 : decode cX1_init 1 = .ok (.invokespecial 1, 3) := by decide +kernel
theorem dX1_init_4 : decode cX1_init 4 = .ok (.aload_n 0, 1) := by decide +kernel
theorem dX1_init_5 : decode cX1_init 5 = .ok (.iload_n 1, 1) := by decide +kernel
theorem dX1_init_6 : decode cX1_init 6 = .ok (.iconst 1, 1) := by decide +kernel
theorem dX1_init_7 : decode cX1_init 7 = .ok (.if_icmp .ge 7, 3) := by decide +kernel
theorem dX1_init_10 : decode cX1_init 10 = .ok (.iconst 1, 1) := by decide +kernel
theorem dX1_init_11 : decode cX1_init 11 = .ok (.goto 13, 3) := by decide +kernel
theorem dX1_init_14 : decode cX1_init 14 = .ok (.iload_n 1, 1) := by decide +kernel
theorem dX1_init_15 : decode cX1_init 15 = .ok (.iconst 3, 1) := by decide +kernel
theorem dX1_init_16 : decode cX1_init 16 = .ok (.if_icmp .le 7, 3) := by decide +kernel
theorem dX1_init_19 : decode cX1_init 19 = .ok (.iconst 3, 1) := by decide +kernel
theorem dX1_init_20 : decode cX1_init 20 = .ok (.goto 4, 3) := by decide +kernel
theorem dX1_init_23 : decode cX1_init 23 = .ok (.iload_n 1, 1) := by decide +kernel
theorem dX1_init_24 : decode cX1_init 24 = .ok (.putfield 7, 3) := by decide +kernel
theorem dX1_init_27 : decode cX1_init 27 = .ok (.aload_n 0, 1) := by decide +kernel
theorem dX1_init_28 : decode cX1_init 28 = .ok (.iload_n 2, 1) := by decide +kernel
theorem dX1_init_29 : decode cX1_init 29 = .ok (.ifCond .ge 7, 3) := by decide +kernel
theorem dX1_init_32 : decode cX1_init 32 = .ok (.iconst 0, 1) := by decide +kernel
theorem dX1_init_33 : decode cX1_init 33 = .ok (.goto 17, 3) := by decide +kernel
theorem dX1_init_36 : decode cX1_init 36 = .ok (.iload_n 2, 1) := by decide +kernel
theorem dX1_init_37 : decode cX1_init 37 = .ok (.sipush 300, 3) := by decide +kernel
theorem dX1_init_40 : decode cX1_init 40 = .ok (.if_icmp .le 9, 3) := by decide +kernel
theorem dX1_init_43 : decode cX1_init 43 = .ok (.sipush 300, 3) := by decide +kernel
theorem dX1_init_46 : decode cX1_init 46 = .ok (.goto 4, 3) := by decide +kernel
theorem dX1_init_49 : decode cX1_init 49 = .ok (.iload_n 2, 1) := by decide +kernel
theorem dX1_init_50 : decode cX1_init 50 = .ok (.putfield 13, 3) := by decide +kernel
theorem dX1_init_53 : decode cX1_init 53 = .ok (.aload_n 0, 1) := by decide +kernel
theorem dX1_init_54 : decode cX1_init 54 = .ok (.iconst 3, 1) := by decide +kernel
theorem dX1_init_55 : decode cX1_init 55 = .ok (.newarray .int, 2) := by decide +kernel
theorem dX1_init_57 : decode cX1_init 57 = .ok (.putfield 16, 3) := by decide +kernel
theorem dX1_init_60 : decode cX1_init 60 = .ok (.aload_n 0, 1) := by decide +kernel
theorem dX1_init_61 : decode cX1_init 61 = .ok (.bipush 9, 2) := by decide +kernel
theorem dX1_init_63 : decode cX1_init 63 = .ok (.newarray .int, 2) := by decide +kernel
theorem dX1_init_65 : decode cX1_init 65 = .ok (.putfield 20, 3) := by decide +kernel
theorem dX1_init_68 : decode cX1_init 68 = .ok (.aload_n 0, 1) := by decide +kernel
theorem dX1_init_69 : decode cX1_init 69 = .ok (.bipush 9, 2) := by decide +kernel
theorem dX1_init_71 : decode cX1_init 71 = .ok (.newarray .int, 2) := by decide +kernel
theorem dX1_init_73 : decode cX1_init 73 = .ok (.putfield 23, 3) := by decide +kernel
theorem dX1_init_76 : decode cX1_init 76 = .ok (.aload_n 0, 1) := by decide +kernel
theorem dX1_init_77 : decode cX1_init 77 = .ok (.bipush 9, 2) := by decide +kernel
theorem dX1_init_79 : decode cX1_init 79 = .ok (.newarray .int, 2) := by decide +kernel
theorem dX1_init_81 : decode cX1_init 81 = .ok (.putfield 26, 3) := by decide +kernel
theorem dX1_init_84 : decode cX1_init 84 = .ok (.aload_n 0, 1) := by decide +kernel
theorem dX1_init_85 : decode cX1_init 85 = .ok (.bipush 10, 2) := by decide +kernel
theorem dX1_init_87 : decode cX1_init 87 = .ok (.newarray .int, 2) := by decide +kernel
theorem dX1_init_89 : decode cX1_init 89 = .ok (.putfield 29, 3) := by decide +kernel
theorem dX1_init_92 : decode cX1_init 92 = .ok (.aload_n 0, 1) := by decide +kernel
theorem dX1_init_93 : decode cX1_init 93 = .ok (.bipush 10, 2) := by decide +kernel
theorem dX1_init_95 : decode cX1_init 95 = .ok (.newarray .int, 2) := by decide +kernel
theorem dX1_init_97 : decode cX1_init 97 = .ok (.putfield 32, 3) := by decide +kernel
theorem dX1_init_100 : decode cX1_init 100 = .ok (.aload_n 0, 1) := by decide +kernel
theorem dX1_init_101 : decode cX1_init 101 = .ok (.iconst 3, 1) := by decide +kernel
theorem dX1_init_102 : decode cX1_init 102 = .ok (.newarray .int, 2) := by decide +kernel
theorem dX1_init_104 : decode cX1_init 104 = .ok (.putfield 35, 3) := by decide +kernel
theorem dX1_init_107 : decode cX1_init 107 = .ok (.aload_n 0, 1) := by decide +kernel
theorem dX1_init_108 : decode cX1_init 108 = .ok (.bipush 8, 2) := by decide +kernel
theorem dX1_init_110 : decode cX1_init 110 = .ok (.newarray .int, 2) := by decide +kernel
theorem dX1_init_112 : decode cX1_init 112 = .ok (.putfield 38, 3) := by decide +kernel
theorem dX1_init_115 : decode cX1_init 115 = .ok (.return_, 1) := by decide +kernel
theorem dX1_offer_0 : decode cX1_offer 0 = .ok (.iload_n 1, 1) := by decide +kernel
theorem dX1_offer_1 : decode cX1_offer 1 = .ok (.iconst 1, 1) := by decide +kernel
theorem dX1_offer_2 : decode cX1_offer 2 = .ok (.if_icmp .lt 9, 3) := by decide +kernel
theorem dX1_offer_5 : decode cX1_offer 5 = .ok (.iload_n 1, 1) := by decide +kernel
theorem dX1_offer_6 : decode cX1_offer 6 = .ok (.bipush 60, 2) := by decide +kernel
theorem dX1_offer_8 : decode cX1_offer 8 = .ok (.if_icmp .le 6, 3) := by decide +kernel
theorem dX1_offer_11 : decode cX1_offer 11 = .ok (.bipush (-2), 2) := by decide +kernel
theorem dX1_offer_13 : decode cX1_offer 13 = .ok (.ireturn, 1) := by decide +kernel
theorem dX1_offer_14 : decode cX1_offer 14 = .ok (.aload_n 0, 1) := by decide +kernel
theorem dX1_offer_15 : decode cX1_offer 15 = .ok (.invokevirtual 41, 3) := by decide +kernel
theorem dX1_offer_18 : decode cX1_offer 18 = .ok (.istore_n 2, 1) := by decide +kernel
theorem dX1_offer_19 : decode cX1_offer 19 = .ok (.iload_n 2, 1) := by decide +kernel
theorem dX1_offer_20 : decode cX1_offer 20 = .ok (.ifCond .ge 6, 3) := by decide +kernel
theorem dX1_offer_23 : decode cX1_offer 23 = .ok (.bipush (-3), 2) := by decide +kernel
theorem dX1_offer_25 : decode cX1_offer 25 = .ok (.ireturn, 1) := by decide +kernel
theorem dX1_offer_26 : decode cX1_offer 26 = .ok (.aload_n 0, 1) := by decide +kernel
theorem dX1_offer_27 : decode cX1_offer 27 = .ok (.iload_n 1, 1) := by decide +kernel
theorem dX1_offer_28 : decode cX1_offer 28 = .ok (.invokevirtual 45, 3) := by decide +kernel
theorem dX1_offer_31 : decode cX1_offer 31 = .ok (.ifCond .ne 5, 3) := by decide +kernel
theorem dX1_offer_34 : decode cX1_offer 34 = .ok (.iconst (-1), 1) := by decide +kernel
theorem dX1_offer_35 : decode cX1_offer 35 = .ok (.ireturn, 1) := by decide +kernel
theorem dX1_offer_36 : decode cX1_offer 36 = .ok (.aload_n 0, 1) := by decide +kernel
theorem dX1_offer_37 : decode cX1_offer 37 = .ok (.getfield 20, 3) := by decide +kernel
theorem dX1_offer_40 : decode cX1_offer 40 = .ok (.iload_n 2, 1) := by decide +kernel
theorem dX1_offer_41 : decode cX1_offer 41 = .ok (.iload_n 1, 1) := by decide +kernel
theorem dX1_offer_42 : decode cX1_offer 42 = .ok (.iastore, 1) := by decide +kernel
theorem dX1_offer_43 : decode cX1_offer 43 = .ok (.aload_n 0, 1) := by decide +kernel
theorem dX1_offer_44 : decode cX1_offer 44 = .ok (.iconst 0, 1) := by decide +kernel
theorem dX1_offer_45 : decode cX1_offer 45 = .ok (.putfield 49, 3) := by decide +kernel
theorem dX1_offer_48 : decode cX1_offer 48 = .ok (.iload_n 2, 1) := by decide +kernel
theorem dX1_offer_49 : decode cX1_offer 49 = .ok (.ireturn, 1) := by decide +kernel
theorem dX1_freeNumber_0 : decode cX1_freeNumber 0 = .ok (.iconst 0, 1) := by decide +kernel
theorem dX1_freeNumber_1 : decode cX1_freeNumber 1 = .ok (.istore_n 1, 1) := by decide +kernel
theorem dX1_freeNumber_2 : decode cX1_freeNumber 2 = .ok (.iload_n 1, 1) := by decide +kernel
theorem dX1_freeNumber_3 : decode cX1_freeNumber 3 = .ok (.bipush 8, 2) := by decide +kernel
theorem dX1_freeNumber_5 : decode cX1_freeNumber 5 = .ok (.if_icmp .ge 20, 3) := by decide +kernel
theorem dX1_freeNumber_8 : decode cX1_freeNumber 8 = .ok (.aload_n 0, 1) := by decide +kernel
theorem dX1_freeNumber_9 : decode cX1_freeNumber 9 = .ok (.getfield 20, 3) := by decide +kernel
theorem dX1_freeNumber_12 : decode cX1_freeNumber 12 = .ok (.iload_n 1, 1) := by decide +kernel
theorem dX1_freeNumber_13 : decode cX1_freeNumber 13 = .ok (.iaload, 1) := by decide +kernel
theorem dX1_freeNumber_14 : decode cX1_freeNumber 14 = .ok (.ifCond .ne 5, 3) := by decide +kernel
theorem dX1_freeNumber_17 : decode cX1_freeNumber 17 = .ok (.iload_n 1, 1) := by decide +kernel
theorem dX1_freeNumber_18 : decode cX1_freeNumber 18 = .ok (.ireturn, 1) := by decide +kernel
theorem dX1_freeNumber_19 : decode cX1_freeNumber 19 = .ok (.iinc 1 1, 3) := by decide +kernel
theorem dX1_freeNumber_22 : decode cX1_freeNumber 22 = .ok (.goto (-20), 3) := by decide +kernel
theorem dX1_freeNumber_25 : decode cX1_freeNumber 25 = .ok (.iconst (-1), 1) := by decide +kernel
theorem dX1_freeNumber_26 : decode cX1_freeNumber 26 = .ok (.ireturn, 1) := by decide +kernel
theorem dX1_fitsWith_0 : decode cX1_fitsWith 0 = .ok (.aload_n 0, 1) := by decide +kernel
theorem dX1_fitsWith_1 : decode cX1_fitsWith 1 = .ok (.invokevirtual 62, 3) := by decide +kernel
theorem dX1_fitsWith_4 : decode cX1_fitsWith 4 = .ok (.aload_n 0, 1) := by decide +kernel
theorem dX1_fitsWith_5 : decode cX1_fitsWith 5 = .ok (.getfield 20, 3) := by decide +kernel
theorem dX1_fitsWith_8 : decode cX1_fitsWith 8 = .ok (.bipush 8, 2) := by decide +kernel
theorem dX1_fitsWith_10 : decode cX1_fitsWith 10 = .ok (.iload_n 1, 1) := by decide +kernel
theorem dX1_fitsWith_11 : decode cX1_fitsWith 11 = .ok (.iastore, 1) := by decide +kernel
theorem dX1_fitsWith_12 : decode cX1_fitsWith 12 = .ok (.aload_n 0, 1) := by decide +kernel
theorem dX1_fitsWith_13 : decode cX1_fitsWith 13 = .ok (.aload_n 0, 1) := by decide +kernel
theorem dX1_fitsWith_14 : decode cX1_fitsWith 14 = .ok (.getfield 13, 3) := by decide +kernel
theorem dX1_fitsWith_17 : decode cX1_fitsWith 17 = .ok (.invokevirtual 65, 3) := by decide +kernel
theorem dX1_fitsWith_20 : decode cX1_fitsWith 20 = .ok (.istore_n 2, 1) := by decide +kernel
theorem dX1_fitsWith_21 : decode cX1_fitsWith 21 = .ok (.aload_n 0, 1) := by decide +kernel
theorem dX1_fitsWith_22 : decode cX1_fitsWith 22 = .ok (.getfield 20, 3) := by decide +kernel
theorem dX1_fitsWith_25 : decode cX1_fitsWith 25 = .ok (.bipush 8, 2) := by decide +kernel
theorem dX1_fitsWith_27 : decode cX1_fitsWith 27 = .ok (.iconst 0, 1) := by decide +kernel
theorem dX1_fitsWith_28 : decode cX1_fitsWith 28 = .ok (.iastore, 1) := by decide +kernel
theorem dX1_fitsWith_29 : decode cX1_fitsWith 29 = .ok (.iload_n 2, 1) := by decide +kernel
theorem dX1_fitsWith_30 : decode cX1_fitsWith 30 = .ok (.ireturn, 1) := by decide +kernel
theorem dX1_freeAll_0 : decode cX1_freeAll 0 = .ok (.iconst 0, 1) := by decide +kernel
theorem dX1_freeAll_1 : decode cX1_freeAll 1 = .ok (.istore_n 1, 1) := by decide +kernel
theorem dX1_freeAll_2 : decode cX1_freeAll 2 = .ok (.iload_n 1, 1) := by decide +kernel
theorem dX1_freeAll_3 : decode cX1_freeAll 3 = .ok (.bipush 9, 2) := by decide +kernel
theorem dX1_freeAll_5 : decode cX1_freeAll 5 = .ok (.if_icmp .ge 16, 3) := by decide +kernel
theorem dX1_freeAll_8 : decode cX1_freeAll 8 = .ok (.aload_n 0, 1) := by decide +kernel
theorem dX1_freeAll_9 : decode cX1_freeAll 9 = .ok (.getfield 23, 3) := by decide +kernel
theorem dX1_freeAll_12 : decode cX1_freeAll 12 = .ok (.iload_n 1, 1) := by decide +kernel
theorem dX1_freeAll_13 : decode cX1_freeAll 13 = .ok (.iconst (-1), 1) := by decide +kernel
theorem dX1_freeAll_14 : decode cX1_freeAll 14 = .ok (.iastore, 1) := by decide +kernel
theorem dX1_freeAll_15 : decode cX1_freeAll 15 = .ok (.iinc 1 1, 3) := by decide +kernel
theorem dX1_freeAll_18 : decode cX1_freeAll 18 = .ok (.goto (-16), 3) := by decide +kernel
theorem dX1_freeAll_21 : decode cX1_freeAll 21 = .ok (.return_, 1) := by decide +kernel
theorem dX1_fitsBy_0 : decode cX1_fitsBy 0 = .ok (.aload_n 0, 1) := by decide +kernel
theorem dX1_fitsBy_1 : decode cX1_fitsBy 1 = .ok (.invokevirtual 81, 3) := by decide +kernel
theorem dX1_fitsBy_4 : decode cX1_fitsBy 4 = .ok (.aload_n 0, 1) := by decide +kernel
theorem dX1_fitsBy_5 : decode cX1_fitsBy 5 = .ok (.iconst 0, 1) := by decide +kernel
theorem dX1_fitsBy_6 : decode cX1_fitsBy 6 = .ok (.iload_n 1, 1) := by decide +kernel
theorem dX1_fitsBy_7 : decode cX1_fitsBy 7 = .ok (.invokevirtual 93, 3) := by decide +kernel
theorem dX1_fitsBy_10 : decode cX1_fitsBy 10 = .ok (.ifCond .ne 5, 3) := by decide +kernel
theorem dX1_fitsBy_13 : decode cX1_fitsBy 13 = .ok (.iconst 0, 1) := by decide +kernel
theorem dX1_fitsBy_14 : decode cX1_fitsBy 14 = .ok (.ireturn, 1) := by decide +kernel
theorem dX1_fitsBy_15 : decode cX1_fitsBy 15 = .ok (.iconst 0, 1) := by decide +kernel
theorem dX1_fitsBy_16 : decode cX1_fitsBy 16 = .ok (.istore_n 2, 1) := by decide +kernel
theorem dX1_fitsBy_17 : decode cX1_fitsBy 17 = .ok (.aload_n 0, 1) := by decide +kernel
theorem dX1_fitsBy_18 : decode cX1_fitsBy 18 = .ok (.getfield 32, 3) := by decide +kernel
theorem dX1_fitsBy_21 : decode cX1_fitsBy 21 = .ok (.iconst 0, 1) := by decide +kernel
theorem dX1_fitsBy_22 : decode cX1_fitsBy 22 = .ok (.iconst (-1), 1) := by decide +kernel
theorem dX1_fitsBy_23 : decode cX1_fitsBy 23 = .ok (.iastore, 1) := by decide +kernel
theorem dX1_fitsBy_24 : decode cX1_fitsBy 24 = .ok (.iconst 0, 1) := by decide +kernel
theorem dX1_fitsBy_25 : decode cX1_fitsBy 25 = .ok (.istore_n 3, 1) := by decide +kernel
theorem dX1_fitsBy_26 : decode cX1_fitsBy 26 = .ok (.iload_n 3, 1) := by decide +kernel
theorem dX1_fitsBy_27 : decode cX1_fitsBy 27 = .ok (.ldc 97, 2) := by decide +kernel
theorem dX1_fitsBy_29 : decode cX1_fitsBy 29 = .ok (.if_icmp .ge 136, 3) := by decide +kernel
theorem dX1_fitsBy_32 : decode cX1_fitsBy 32 = .ok (.iload_n 2, 1) := by decide +kernel
theorem dX1_fitsBy_33 : decode cX1_fitsBy 33 = .ok (.aload_n 0, 1) := by decide +kernel
theorem dX1_fitsBy_34 : decode cX1_fitsBy 34 = .ok (.getfield 84, 3) := by decide +kernel
theorem dX1_fitsBy_37 : decode cX1_fitsBy 37 = .ok (.if_icmp .ne 5, 3) := by decide +kernel
theorem dX1_fitsBy_40 : decode cX1_fitsBy 40 = .ok (.iconst 1, 1) := by decide +kernel
theorem dX1_fitsBy_41 : decode cX1_fitsBy 41 = .ok (.ireturn, 1) := by decide +kernel
theorem dX1_fitsBy_42 : decode cX1_fitsBy 42 = .ok (.aload_n 0, 1) := by decide +kernel
theorem dX1_fitsBy_43 : decode cX1_fitsBy 43 = .ok (.getfield 20, 3) := by decide +kernel
theorem dX1_fitsBy_46 : decode cX1_fitsBy 46 = .ok (.aload_n 0, 1) := by decide +kernel
theorem dX1_fitsBy_47 : decode cX1_fitsBy 47 = .ok (.getfield 26, 3) := by decide +kernel
theorem dX1_fitsBy_50 : decode cX1_fitsBy 50 = .ok (.iload_n 2, 1) := by decide +kernel
theorem dX1_fitsBy_51 : decode cX1_fitsBy 51 = .ok (.iaload, 1) := by decide +kernel
theorem dX1_fitsBy_52 : decode cX1_fitsBy 52 = .ok (.iaload, 1) := by decide +kernel
theorem dX1_fitsBy_53 : decode cX1_fitsBy 53 = .ok (.istore 4, 2) := by decide +kernel
theorem dX1_fitsBy_55 : decode cX1_fitsBy 55 = .ok (.aload_n 0, 1) := by decide +kernel
theorem dX1_fitsBy_56 : decode cX1_fitsBy 56 = .ok (.getfield 32, 3) := by decide +kernel
theorem dX1_fitsBy_59 : decode cX1_fitsBy 59 = .ok (.iload_n 2, 1) := by decide +kernel
theorem dX1_fitsBy_60 : decode cX1_fitsBy 60 = .ok (.iaload, 1) := by decide +kernel
theorem dX1_fitsBy_61 : decode cX1_fitsBy 61 = .ok (.ifCond .lt 19, 3) := by decide +kernel
theorem dX1_fitsBy_64 : decode cX1_fitsBy 64 = .ok (.aload_n 0, 1) := by decide +kernel
theorem dX1_fitsBy_65 : decode cX1_fitsBy 65 = .ok (.getfield 35, 3) := by decide +kernel
theorem dX1_fitsBy_68 : decode cX1_fitsBy 68 = .ok (.aload_n 0, 1) := by decide +kernel
theorem dX1_fitsBy_69 : decode cX1_fitsBy 69 = .ok (.getfield 32, 3) := by decide +kernel
theorem dX1_fitsBy_72 : decode cX1_fitsBy 72 = .ok (.iload_n 2, 1) := by decide +kernel
theorem dX1_fitsBy_73 : decode cX1_fitsBy 73 = .ok (.iaload, 1) := by decide +kernel
theorem dX1_fitsBy_74 : decode cX1_fitsBy 74 = .ok (.dup2, 1) := by decide +kernel
theorem dX1_fitsBy_75 : decode cX1_fitsBy 75 = .ok (.iaload, 1) := by decide +kernel
theorem dX1_fitsBy_76 : decode cX1_fitsBy 76 = .ok (.iload 4, 2) := by decide +kernel
theorem dX1_fitsBy_78 : decode cX1_fitsBy 78 = .ok (.isub, 1) := by decide +kernel
theorem dX1_fitsBy_79 : decode cX1_fitsBy 79 = .ok (.iastore, 1) := by decide +kernel
theorem dX1_fitsBy_80 : decode cX1_fitsBy 80 = .ok (.aload_n 0, 1) := by decide +kernel
theorem dX1_fitsBy_81 : decode cX1_fitsBy 81 = .ok (.getfield 32, 3) := by decide +kernel
theorem dX1_fitsBy_84 : decode cX1_fitsBy 84 = .ok (.iload_n 2, 1) := by decide +kernel
theorem dX1_fitsBy_85 : decode cX1_fitsBy 85 = .ok (.aload_n 0, 1) := by decide +kernel
theorem dX1_fitsBy_86 : decode cX1_fitsBy 86 = .ok (.aload_n 0, 1) := by decide +kernel
theorem dX1_fitsBy_87 : decode cX1_fitsBy 87 = .ok (.getfield 32, 3) := by decide +kernel
theorem dX1_fitsBy_90 : decode cX1_fitsBy 90 = .ok (.iload_n 2, 1) := by decide +kernel
theorem dX1_fitsBy_91 : decode cX1_fitsBy 91 = .ok (.iaload, 1) := by decide +kernel
theorem dX1_fitsBy_92 : decode cX1_fitsBy 92 = .ok (.iconst 1, 1) := by decide +kernel
theorem dX1_fitsBy_93 : decode cX1_fitsBy 93 = .ok (.iadd, 1) := by decide +kernel
theorem dX1_fitsBy_94 : decode cX1_fitsBy 94 = .ok (.iload 4, 2) := by decide +kernel
theorem dX1_fitsBy_96 : decode cX1_fitsBy 96 = .ok (.iload_n 1, 1) := by decide +kernel
theorem dX1_fitsBy_97 : decode cX1_fitsBy 97 = .ok (.invokevirtual 98, 3) := by decide +kernel
theorem dX1_fitsBy_100 : decode cX1_fitsBy 100 = .ok (.iastore, 1) := by decide +kernel
theorem dX1_fitsBy_101 : decode cX1_fitsBy 101 = .ok (.aload_n 0, 1) := by decide +kernel
theorem dX1_fitsBy_102 : decode cX1_fitsBy 102 = .ok (.getfield 32, 3) := by decide +kernel
theorem dX1_fitsBy_105 : decode cX1_fitsBy 105 = .ok (.iload_n 2, 1) := by decide +kernel
theorem dX1_fitsBy_106 : decode cX1_fitsBy 106 = .ok (.iaload, 1) := by decide +kernel
theorem dX1_fitsBy_107 : decode cX1_fitsBy 107 = .ok (.ifCond .ge 15, 3) := by decide +kernel
theorem dX1_fitsBy_110 : decode cX1_fitsBy 110 = .ok (.iload_n 2, 1) := by decide +kernel
theorem dX1_fitsBy_111 : decode cX1_fitsBy 111 = .ok (.ifCond .ne 5, 3) := by decide +kernel
theorem dX1_fitsBy_114 : decode cX1_fitsBy 114 = .ok (.iconst 0, 1) := by decide +kernel
theorem dX1_fitsBy_115 : decode cX1_fitsBy 115 = .ok (.ireturn, 1) := by decide +kernel
theorem dX1_fitsBy_116 : decode cX1_fitsBy 116 = .ok (.iinc 2 (-1), 3) := by decide +kernel
theorem dX1_fitsBy_119 : decode cX1_fitsBy 119 = .ok (.goto 40, 3) := by decide +kernel
theorem dX1_fitsBy_122 : decode cX1_fitsBy 122 = .ok (.aload_n 0, 1) := by decide +kernel
theorem dX1_fitsBy_123 : decode cX1_fitsBy 123 = .ok (.getfield 35, 3) := by decide +kernel
theorem dX1_fitsBy_126 : decode cX1_fitsBy 126 = .ok (.aload_n 0, 1) := by decide +kernel
theorem dX1_fitsBy_127 : decode cX1_fitsBy 127 = .ok (.getfield 32, 3) := by decide +kernel
theorem dX1_fitsBy_130 : decode cX1_fitsBy 130 = .ok (.iload_n 2, 1) := by decide +kernel
theorem dX1_fitsBy_131 : decode cX1_fitsBy 131 = .ok (.iaload, 1) := by decide +kernel
theorem dX1_fitsBy_132 : decode cX1_fitsBy 132 = .ok (.dup2, 1) := by decide +kernel
theorem dX1_fitsBy_133 : decode cX1_fitsBy 133 = .ok (.iaload, 1) := by decide +kernel
theorem dX1_fitsBy_134 : decode cX1_fitsBy 134 = .ok (.iload 4, 2) := by decide +kernel
theorem dX1_fitsBy_136 : decode cX1_fitsBy 136 = .ok (.iadd, 1) := by decide +kernel
theorem dX1_fitsBy_137 : decode cX1_fitsBy 137 = .ok (.iastore, 1) := by decide +kernel
theorem dX1_fitsBy_138 : decode cX1_fitsBy 138 = .ok (.aload_n 0, 1) := by decide +kernel
theorem dX1_fitsBy_139 : decode cX1_fitsBy 139 = .ok (.iload_n 2, 1) := by decide +kernel
theorem dX1_fitsBy_140 : decode cX1_fitsBy 140 = .ok (.iconst 1, 1) := by decide +kernel
theorem dX1_fitsBy_141 : decode cX1_fitsBy 141 = .ok (.iadd, 1) := by decide +kernel
theorem dX1_fitsBy_142 : decode cX1_fitsBy 142 = .ok (.iload_n 1, 1) := by decide +kernel
theorem dX1_fitsBy_143 : decode cX1_fitsBy 143 = .ok (.invokevirtual 93, 3) := by decide +kernel
theorem dX1_fitsBy_146 : decode cX1_fitsBy 146 = .ok (.ifCond .eq 13, 3) := by decide +kernel
theorem dX1_fitsBy_149 : decode cX1_fitsBy 149 = .ok (.iinc 2 1, 3) := by decide +kernel
theorem dX1_fitsBy_152 : decode cX1_fitsBy 152 = .ok (.aload_n 0, 1) := by decide +kernel
theorem dX1_fitsBy_153 : decode cX1_fitsBy 153 = .ok (.getfield 32, 3) := by decide +kernel
theorem dX1_fitsBy_156 : decode cX1_fitsBy 156 = .ok (.iload_n 2, 1) := by decide +kernel
theorem dX1_fitsBy_157 : decode cX1_fitsBy 157 = .ok (.iconst (-1), 1) := by decide +kernel
theorem dX1_fitsBy_158 : decode cX1_fitsBy 158 = .ok (.iastore, 1) := by decide +kernel
theorem dX1_fitsBy_159 : decode cX1_fitsBy 159 = .ok (.iinc 3 1, 3) := by decide +kernel
theorem dX1_fitsBy_162 : decode cX1_fitsBy 162 = .ok (.goto (-136), 3) := by decide +kernel
theorem dX1_fitsBy_165 : decode cX1_fitsBy 165 = .ok (.iconst 0, 1) := by decide +kernel
theorem dX1_fitsBy_166 : decode cX1_fitsBy 166 = .ok (.ireturn, 1) := by decide +kernel
theorem dX1_arrange_0 : decode cX1_arrange 0 = .ok (.iconst 0, 1) := by decide +kernel
theorem dX1_arrange_1 : decode cX1_arrange 1 = .ok (.istore_n 1, 1) := by decide +kernel
theorem dX1_arrange_2 : decode cX1_arrange 2 = .ok (.iload_n 1, 1) := by decide +kernel
theorem dX1_arrange_3 : decode cX1_arrange 3 = .ok (.aload_n 0, 1) := by decide +kernel
theorem dX1_arrange_4 : decode cX1_arrange 4 = .ok (.getfield 7, 3) := by decide +kernel
theorem dX1_arrange_7 : decode cX1_arrange 7 = .ok (.if_icmp .ge 21, 3) := by decide +kernel
theorem dX1_arrange_10 : decode cX1_arrange 10 = .ok (.aload_n 0, 1) := by decide +kernel
theorem dX1_arrange_11 : decode cX1_arrange 11 = .ok (.getfield 35, 3) := by decide +kernel
theorem dX1_arrange_14 : decode cX1_arrange 14 = .ok (.iload_n 1, 1) := by decide +kernel
theorem dX1_arrange_15 : decode cX1_arrange 15 = .ok (.aload_n 0, 1) := by decide +kernel
theorem dX1_arrange_16 : decode cX1_arrange 16 = .ok (.getfield 16, 3) := by decide +kernel
theorem dX1_arrange_19 : decode cX1_arrange 19 = .ok (.iload_n 1, 1) := by decide +kernel
theorem dX1_arrange_20 : decode cX1_arrange 20 = .ok (.iaload, 1) := by decide +kernel
theorem dX1_arrange_21 : decode cX1_arrange 21 = .ok (.iastore, 1) := by decide +kernel
theorem dX1_arrange_22 : decode cX1_arrange 22 = .ok (.iinc 1 1, 3) := by decide +kernel
theorem dX1_arrange_25 : decode cX1_arrange 25 = .ok (.goto (-23), 3) := by decide +kernel
theorem dX1_arrange_28 : decode cX1_arrange 28 = .ok (.aload_n 0, 1) := by decide +kernel
theorem dX1_arrange_29 : decode cX1_arrange 29 = .ok (.iconst 0, 1) := by decide +kernel
theorem dX1_arrange_30 : decode cX1_arrange 30 = .ok (.putfield 84, 3) := by decide +kernel
theorem dX1_arrange_33 : decode cX1_arrange 33 = .ok (.iconst 0, 1) := by decide +kernel
theorem dX1_arrange_34 : decode cX1_arrange 34 = .ok (.istore_n 1, 1) := by decide +kernel
theorem dX1_arrange_35 : decode cX1_arrange 35 = .ok (.iload_n 1, 1) := by decide +kernel
theorem dX1_arrange_36 : decode cX1_arrange 36 = .ok (.bipush 9, 2) := by decide +kernel
theorem dX1_arrange_38 : decode cX1_arrange 38 = .ok (.if_icmp .ge 64, 3) := by decide +kernel
theorem dX1_arrange_41 : decode cX1_arrange 41 = .ok (.aload_n 0, 1) := by decide +kernel
theorem dX1_arrange_42 : decode cX1_arrange 42 = .ok (.getfield 20, 3) := by decide +kernel
theorem dX1_arrange_45 : decode cX1_arrange 45 = .ok (.iload_n 1, 1) := by decide +kernel
theorem dX1_arrange_46 : decode cX1_arrange 46 = .ok (.iaload, 1) := by decide +kernel
theorem dX1_arrange_47 : decode cX1_arrange 47 = .ok (.ifCond .le 35, 3) := by decide +kernel
theorem dX1_arrange_50 : decode cX1_arrange 50 = .ok (.aload_n 0, 1) := by decide +kernel
theorem dX1_arrange_51 : decode cX1_arrange 51 = .ok (.getfield 23, 3) := by decide +kernel
theorem dX1_arrange_54 : decode cX1_arrange 54 = .ok (.iload_n 1, 1) := by decide +kernel
theorem dX1_arrange_55 : decode cX1_arrange 55 = .ok (.iaload, 1) := by decide +kernel
theorem dX1_arrange_56 : decode cX1_arrange 56 = .ok (.ifCond .lt 26, 3) := by decide +kernel
theorem dX1_arrange_59 : decode cX1_arrange 59 = .ok (.aload_n 0, 1) := by decide +kernel
theorem dX1_arrange_60 : decode cX1_arrange 60 = .ok (.getfield 35, 3) := by decide +kernel
theorem dX1_arrange_63 : decode cX1_arrange 63 = .ok (.aload_n 0, 1) := by decide +kernel
theorem dX1_arrange_64 : decode cX1_arrange 64 = .ok (.getfield 23, 3) := by decide +kernel
theorem dX1_arrange_67 : decode cX1_arrange 67 = .ok (.iload_n 1, 1) := by decide +kernel
theorem dX1_arrange_68 : decode cX1_arrange 68 = .ok (.iaload, 1) := by decide +kernel
theorem dX1_arrange_69 : decode cX1_arrange 69 = .ok (.dup2, 1) := by decide +kernel
theorem dX1_arrange_70 : decode cX1_arrange 70 = .ok (.iaload, 1) := by decide +kernel
theorem dX1_arrange_71 : decode cX1_arrange 71 = .ok (.aload_n 0, 1) := by decide +kernel
theorem dX1_arrange_72 : decode cX1_arrange 72 = .ok (.getfield 20, 3) := by decide +kernel
theorem dX1_arrange_75 : decode cX1_arrange 75 = .ok (.iload_n 1, 1) := by decide +kernel
theorem dX1_arrange_76 : decode cX1_arrange 76 = .ok (.iaload, 1) := by decide +kernel
theorem dX1_arrange_77 : decode cX1_arrange 77 = .ok (.iadd, 1) := by decide +kernel
theorem dX1_arrange_78 : decode cX1_arrange 78 = .ok (.iastore, 1) := by decide +kernel
theorem dX1_arrange_79 : decode cX1_arrange 79 = .ok (.goto 17, 3) := by decide +kernel
theorem dX1_arrange_82 : decode cX1_arrange 82 = .ok (.aload_n 0, 1) := by decide +kernel
theorem dX1_arrange_83 : decode cX1_arrange 83 = .ok (.getfield 20, 3) := by decide +kernel
theorem dX1_arrange_86 : decode cX1_arrange 86 = .ok (.iload_n 1, 1) := by decide +kernel
theorem dX1_arrange_87 : decode cX1_arrange 87 = .ok (.iaload, 1) := by decide +kernel
theorem dX1_arrange_88 : decode cX1_arrange 88 = .ok (.ifCond .le 8, 3) := by decide +kernel
theorem dX1_arrange_91 : decode cX1_arrange 91 = .ok (.aload_n 0, 1) := by decide +kernel
theorem dX1_arrange_92 : decode cX1_arrange 92 = .ok (.iload_n 1, 1) := by decide +kernel
theorem dX1_arrange_93 : decode cX1_arrange 93 = .ok (.invokevirtual 90, 3) := by decide +kernel
theorem dX1_arrange_96 : decode cX1_arrange 96 = .ok (.iinc 1 1, 3) := by decide +kernel
theorem dX1_arrange_99 : decode cX1_arrange 99 = .ok (.goto (-64), 3) := by decide +kernel
theorem dX1_arrange_102 : decode cX1_arrange 102 = .ok (.aload_n 0, 1) := by decide +kernel
theorem dX1_arrange_103 : decode cX1_arrange 103 = .ok (.getfield 29, 3) := by decide +kernel
theorem dX1_arrange_106 : decode cX1_arrange 106 = .ok (.aload_n 0, 1) := by decide +kernel
theorem dX1_arrange_107 : decode cX1_arrange 107 = .ok (.getfield 84, 3) := by decide +kernel
theorem dX1_arrange_110 : decode cX1_arrange 110 = .ok (.iconst 0, 1) := by decide +kernel
theorem dX1_arrange_111 : decode cX1_arrange 111 = .ok (.iastore, 1) := by decide +kernel
theorem dX1_arrange_112 : decode cX1_arrange 112 = .ok (.aload_n 0, 1) := by decide +kernel
theorem dX1_arrange_113 : decode cX1_arrange 113 = .ok (.getfield 84, 3) := by decide +kernel
theorem dX1_arrange_116 : decode cX1_arrange 116 = .ok (.iconst 1, 1) := by decide +kernel
theorem dX1_arrange_117 : decode cX1_arrange 117 = .ok (.isub, 1) := by decide +kernel
theorem dX1_arrange_118 : decode cX1_arrange 118 = .ok (.istore_n 1, 1) := by decide +kernel
theorem dX1_arrange_119 : decode cX1_arrange 119 = .ok (.iload_n 1, 1) := by decide +kernel
theorem dX1_arrange_120 : decode cX1_arrange 120 = .ok (.ifCond .lt 35, 3) := by decide +kernel
theorem dX1_arrange_123 : decode cX1_arrange 123 = .ok (.aload_n 0, 1) := by decide +kernel
theorem dX1_arrange_124 : decode cX1_arrange 124 = .ok (.getfield 29, 3) := by decide +kernel
theorem dX1_arrange_127 : decode cX1_arrange 127 = .ok (.iload_n 1, 1) := by decide +kernel
theorem dX1_arrange_128 : decode cX1_arrange 128 = .ok (.aload_n 0, 1) := by decide +kernel
theorem dX1_arrange_129 : decode cX1_arrange 129 = .ok (.getfield 29, 3) := by decide +kernel
theorem dX1_arrange_132 : decode cX1_arrange 132 = .ok (.iload_n 1, 1) := by decide +kernel
theorem dX1_arrange_133 : decode cX1_arrange 133 = .ok (.iconst 1, 1) := by decide +kernel
theorem dX1_arrange_134 : decode cX1_arrange 134 = .ok (.iadd, 1) := by decide +kernel
theorem dX1_arrange_135 : decode cX1_arrange 135 = .ok (.iaload, 1) := by decide +kernel
theorem dX1_arrange_136 : decode cX1_arrange 136 = .ok (.aload_n 0, 1) := by decide +kernel
theorem dX1_arrange_137 : decode cX1_arrange 137 = .ok (.getfield 20, 3) := by decide +kernel
theorem dX1_arrange_140 : decode cX1_arrange 140 = .ok (.aload_n 0, 1) := by decide +kernel
theorem dX1_arrange_141 : decode cX1_arrange 141 = .ok (.getfield 26, 3) := by decide +kernel
theorem dX1_arrange_144 : decode cX1_arrange 144 = .ok (.iload_n 1, 1) := by decide +kernel
theorem dX1_arrange_145 : decode cX1_arrange 145 = .ok (.iaload, 1) := by decide +kernel
theorem dX1_arrange_146 : decode cX1_arrange 146 = .ok (.iaload, 1) := by decide +kernel
theorem dX1_arrange_147 : decode cX1_arrange 147 = .ok (.iadd, 1) := by decide +kernel
theorem dX1_arrange_148 : decode cX1_arrange 148 = .ok (.iastore, 1) := by decide +kernel
theorem dX1_arrange_149 : decode cX1_arrange 149 = .ok (.iinc 1 (-1), 3) := by decide +kernel
theorem dX1_arrange_152 : decode cX1_arrange 152 = .ok (.goto (-33), 3) := by decide +kernel
theorem dX1_arrange_155 : decode cX1_arrange 155 = .ok (.return_, 1) := by decide +kernel
theorem dX1_insertInOrder_0 : decode cX1_insertInOrder 0 = .ok (.aload_n 0, 1) := by decide +kernel
theorem dX1_insertInOrder_1 : decode cX1_insertInOrder 1 = .ok (.getfield 84, 3) := by decide +kernel
theorem dX1_insertInOrder_4 : decode cX1_insertInOrder 4 = .ok (.istore_n 2, 1) := by decide +kernel
theorem dX1_insertInOrder_5 : decode cX1_insertInOrder 5 = .ok (.aload_n 0, 1) := by decide +kernel
theorem dX1_insertInOrder_6 : decode cX1_insertInOrder 6 = .ok (.getfield 84, 3) := by decide +kernel
theorem dX1_insertInOrder_9 : decode cX1_insertInOrder 9 = .ok (.istore_n 3, 1) := by decide +kernel
theorem dX1_insertInOrder_10 : decode cX1_insertInOrder 10 = .ok (.iload_n 3, 1) := by decide +kernel
theorem dX1_insertInOrder_11 : decode cX1_insertInOrder 11 = .ok (.ifCond .le 54, 3) := by decide +kernel
theorem dX1_insertInOrder_14 : decode cX1_insertInOrder 14 = .ok (.iload_n 2, 1) := by decide +kernel
theorem dX1_insertInOrder_15 : decode cX1_insertInOrder 15 = .ok (.iload_n 3, 1) := by decide +kernel
theorem dX1_insertInOrder_16 : decode cX1_insertInOrder 16 = .ok (.if_icmp .ne 43, 3) := by decide +kernel
theorem dX1_insertInOrder_19 : decode cX1_insertInOrder 19 = .ok (.aload_n 0, 1) := by decide +kernel
theorem dX1_insertInOrder_20 : decode cX1_insertInOrder 20 = .ok (.getfield 20, 3) := by decide +kernel
theorem dX1_insertInOrder_23 : decode cX1_insertInOrder 23 = .ok (.aload_n 0, 1) := by decide +kernel
theorem dX1_insertInOrder_24 : decode cX1_insertInOrder 24 = .ok (.getfield 26, 3) := by decide +kernel
theorem dX1_insertInOrder_27 : decode cX1_insertInOrder 27 = .ok (.iload_n 3, 1) := by decide +kernel
theorem dX1_insertInOrder_28 : decode cX1_insertInOrder 28 = .ok (.iconst 1, 1) := by decide +kernel
theorem dX1_insertInOrder_29 : decode cX1_insertInOrder 29 = .ok (.isub, 1) := by decide +kernel
theorem dX1_insertInOrder_30 : decode cX1_insertInOrder 30 = .ok (.iaload, 1) := by decide +kernel
theorem dX1_insertInOrder_31 : decode cX1_insertInOrder 31 = .ok (.iaload, 1) := by decide +kernel
theorem dX1_insertInOrder_32 : decode cX1_insertInOrder 32 = .ok (.aload_n 0, 1) := by decide +kernel
theorem dX1_insertInOrder_33 : decode cX1_insertInOrder 33 = .ok (.getfield 20, 3) := by decide +kernel
theorem dX1_insertInOrder_36 : decode cX1_insertInOrder 36 = .ok (.iload_n 1, 1) := by decide +kernel
theorem dX1_insertInOrder_37 : decode cX1_insertInOrder 37 = .ok (.iaload, 1) := by decide +kernel
theorem dX1_insertInOrder_38 : decode cX1_insertInOrder 38 = .ok (.if_icmp .ge 21, 3) := by decide +kernel
theorem dX1_insertInOrder_41 : decode cX1_insertInOrder 41 = .ok (.aload_n 0, 1) := by decide +kernel
theorem dX1_insertInOrder_42 : decode cX1_insertInOrder 42 = .ok (.getfield 26, 3) := by decide +kernel
theorem dX1_insertInOrder_45 : decode cX1_insertInOrder 45 = .ok (.iload_n 3, 1) := by decide +kernel
theorem dX1_insertInOrder_46 : decode cX1_insertInOrder 46 = .ok (.aload_n 0, 1) := by decide +kernel
theorem dX1_insertInOrder_47 : decode cX1_insertInOrder 47 = .ok (.getfield 26, 3) := by decide +kernel
theorem dX1_insertInOrder_50 : decode cX1_insertInOrder 50 = .ok (.iload_n 3, 1) := by decide +kernel
theorem dX1_insertInOrder_51 : decode cX1_insertInOrder 51 = .ok (.iconst 1, 1) := by decide +kernel
theorem dX1_insertInOrder_52 : decode cX1_insertInOrder 52 = .ok (.isub, 1) := by decide +kernel
theorem dX1_insertInOrder_53 : decode cX1_insertInOrder 53 = .ok (.iaload, 1) := by decide +kernel
theorem dX1_insertInOrder_54 : decode cX1_insertInOrder 54 = .ok (.iastore, 1) := by decide +kernel
theorem dX1_insertInOrder_55 : decode cX1_insertInOrder 55 = .ok (.iload_n 3, 1) := by decide +kernel
theorem dX1_insertInOrder_56 : decode cX1_insertInOrder 56 = .ok (.iconst 1, 1) := by decide +kernel
theorem dX1_insertInOrder_57 : decode cX1_insertInOrder 57 = .ok (.isub, 1) := by decide +kernel
theorem dX1_insertInOrder_58 : decode cX1_insertInOrder 58 = .ok (.istore_n 2, 1) := by decide +kernel
theorem dX1_insertInOrder_59 : decode cX1_insertInOrder 59 = .ok (.iinc 3 (-1), 3) := by decide +kernel
theorem dX1_insertInOrder_62 : decode cX1_insertInOrder 62 = .ok (.goto (-52), 3) := by decide +kernel
theorem dX1_insertInOrder_65 : decode cX1_insertInOrder 65 = .ok (.aload_n 0, 1) := by decide +kernel
theorem dX1_insertInOrder_66 : decode cX1_insertInOrder 66 = .ok (.getfield 26, 3) := by decide +kernel
theorem dX1_insertInOrder_69 : decode cX1_insertInOrder 69 = .ok (.iload_n 2, 1) := by decide +kernel
theorem dX1_insertInOrder_70 : decode cX1_insertInOrder 70 = .ok (.iload_n 1, 1) := by decide +kernel
theorem dX1_insertInOrder_71 : decode cX1_insertInOrder 71 = .ok (.iastore, 1) := by decide +kernel
theorem dX1_insertInOrder_72 : decode cX1_insertInOrder 72 = .ok (.aload_n 0, 1) := by decide +kernel
theorem dX1_insertInOrder_73 : decode cX1_insertInOrder 73 = .ok (.dup, 1) := by decide +kernel
theorem dX1_insertInOrder_74 : decode cX1_insertInOrder 74 = .ok (.getfield 84, 3) := by decide +kernel
theorem dX1_insertInOrder_77 : decode cX1_insertInOrder 77 = .ok (.iconst 1, 1) := by decide +kernel
theorem dX1_insertInOrder_78 : decode cX1_insertInOrder 78 = .ok (.iadd, 1) := by decide +kernel
theorem dX1_insertInOrder_79 : decode cX1_insertInOrder 79 = .ok (.putfield 84, 3) := by decide +kernel
theorem dX1_insertInOrder_82 : decode cX1_insertInOrder 82 = .ok (.return_, 1) := by decide +kernel
theorem dX1_roomFor_0 : decode cX1_roomFor 0 = .ok (.iconst 0, 1) := by decide +kernel
theorem dX1_roomFor_1 : decode cX1_roomFor 1 = .ok (.istore_n 3, 1) := by decide +kernel
theorem dX1_roomFor_2 : decode cX1_roomFor 2 = .ok (.iconst 0, 1) := by decide +kernel
theorem dX1_roomFor_3 : decode cX1_roomFor 3 = .ok (.istore 4, 2) := by decide +kernel
theorem dX1_roomFor_5 : decode cX1_roomFor 5 = .ok (.iload 4, 2) := by decide +kernel
theorem dX1_roomFor_7 : decode cX1_roomFor 7 = .ok (.aload_n 0, 1) := by decide +kernel
theorem dX1_roomFor_8 : decode cX1_roomFor 8 = .ok (.getfield 7, 3) := by decide +kernel
theorem dX1_roomFor_11 : decode cX1_roomFor 11 = .ok (.if_icmp .ge 34, 3) := by decide +kernel
theorem dX1_roomFor_14 : decode cX1_roomFor 14 = .ok (.aload_n 0, 1) := by decide +kernel
theorem dX1_roomFor_15 : decode cX1_roomFor 15 = .ok (.getfield 35, 3) := by decide +kernel
theorem dX1_roomFor_18 : decode cX1_roomFor 18 = .ok (.iload 4, 2) := by decide +kernel
theorem dX1_roomFor_20 : decode cX1_roomFor 20 = .ok (.iaload, 1) := by decide +kernel
theorem dX1_roomFor_21 : decode cX1_roomFor 21 = .ok (.iload_n 2, 1) := by decide +kernel
theorem dX1_roomFor_22 : decode cX1_roomFor 22 = .ok (.if_icmp .le 5, 3) := by decide +kernel
theorem dX1_roomFor_25 : decode cX1_roomFor 25 = .ok (.iconst 0, 1) := by decide +kernel
theorem dX1_roomFor_26 : decode cX1_roomFor 26 = .ok (.ireturn, 1) := by decide +kernel
theorem dX1_roomFor_27 : decode cX1_roomFor 27 = .ok (.iload_n 3, 1) := by decide +kernel
theorem dX1_roomFor_28 : decode cX1_roomFor 28 = .ok (.iload_n 2, 1) := by decide +kernel
theorem dX1_roomFor_29 : decode cX1_roomFor 29 = .ok (.aload_n 0, 1) := by decide +kernel
theorem dX1_roomFor_30 : decode cX1_roomFor 30 = .ok (.getfield 35, 3) := by decide +kernel
end
section
set_option maxRecDepth 100000
theorem dX1_roomFor_33 : decode cX1_roomFor 33 = .ok (.iload 4, 2) := by decide +kernel
theorem dX1_roomFor_35 : decode cX1_roomFor 35 = .ok (.iaload, 1) := by decide +kernel
theorem dX1_roomFor_36 : decode cX1_roomFor 36 = .ok (.isub, 1) := by decide +kernel
theorem dX1_roomFor_37 : decode cX1_roomFor 37 = .ok (.iadd, 1) := by decide +kernel
theorem dX1_roomFor_38 : decode cX1_roomFor 38 = .ok (.istore_n 3, 1) := by decide +kernel
theorem dX1_roomFor_39 : decode cX1_roomFor 39 = .ok (.iinc 4 1, 3) := by decide +kernel
theorem dX1_roomFor_42 : decode cX1_roomFor 42 = .ok (.goto (-37), 3) := by decide +kernel
theorem dX1_roomFor_45 : decode cX1_roomFor 45 = .ok (.aload_n 0, 1) := by decide +kernel
theorem dX1_roomFor_46 : decode cX1_roomFor 46 = .ok (.getfield 29, 3) := by decide +kernel
theorem dX1_roomFor_49 : decode cX1_roomFor 49 = .ok (.iload_n 1, 1) := by decide +kernel
theorem dX1_roomFor_50 : decode cX1_roomFor 50 = .ok (.iaload, 1) := by decide +kernel
theorem dX1_roomFor_51 : decode cX1_roomFor 51 = .ok (.iload_n 3, 1) := by decide +kernel
theorem dX1_roomFor_52 : decode cX1_roomFor 52 = .ok (.if_icmp .gt 7, 3) := by decide +kernel
theorem dX1_roomFor_55 : decode cX1_roomFor 55 = .ok (.iconst 1, 1) := by decide +kernel
theorem dX1_roomFor_56 : decode cX1_roomFor 56 = .ok (.goto 4, 3) := by decide +kernel
theorem dX1_roomFor_59 : decode cX1_roomFor 59 = .ok (.iconst 0, 1) := by decide +kernel
theorem dX1_roomFor_60 : decode cX1_roomFor 60 = .ok (.ireturn, 1) := by decide +kernel
theorem dX1_nextMachine_0 : decode cX1_nextMachine 0 = .ok (.iload_n 1, 1) := by decide +kernel
theorem dX1_nextMachine_1 : decode cX1_nextMachine 1 = .ok (.istore 4, 2) := by decide +kernel
theorem dX1_nextMachine_3 : decode cX1_nextMachine 3 = .ok (.iload 4, 2) := by decide +kernel
theorem dX1_nextMachine_5 : decode cX1_nextMachine 5 = .ok (.aload_n 0, 1) := by decide +kernel
theorem dX1_nextMachine_6 : decode cX1_nextMachine 6 = .ok (.getfield 7, 3) := by decide +kernel
theorem dX1_nextMachine_9 : decode cX1_nextMachine 9 = .ok (.if_icmp .ge 34, 3) := by decide +kernel
theorem dX1_nextMachine_12 : decode cX1_nextMachine 12 = .ok (.aload_n 0, 1) := by decide +kernel
theorem dX1_nextMachine_13 : decode cX1_nextMachine 13 = .ok (.getfield 35, 3) := by decide +kernel
theorem dX1_nextMachine_16 : decode cX1_nextMachine 16 = .ok (.iload 4, 2) := by decide +kernel
theorem dX1_nextMachine_18 : decode cX1_nextMachine 18 = .ok (.iaload, 1) := by decide +kernel
theorem dX1_nextMachine_19 : decode cX1_nextMachine 19 = .ok (.iload_n 2, 1) := by decide +kernel
theorem dX1_nextMachine_20 : decode cX1_nextMachine 20 = .ok (.iadd, 1) := by decide +kernel
theorem dX1_nextMachine_21 : decode cX1_nextMachine 21 = .ok (.iload_n 3, 1) := by decide +kernel
theorem dX1_nextMachine_22 : decode cX1_nextMachine 22 = .ok (.if_icmp .gt 15, 3) := by decide +kernel
theorem dX1_nextMachine_25 : decode cX1_nextMachine 25 = .ok (.aload_n 0, 1) := by decide +kernel
theorem dX1_nextMachine_26 : decode cX1_nextMachine 26 = .ok (.iload 4, 2) := by decide +kernel
theorem dX1_nextMachine_28 : decode cX1_nextMachine 28 = .ok (.invokevirtual 102, 3) := by decide +kernel
theorem dX1_nextMachine_31 : decode cX1_nextMachine 31 = .ok (.ifCond .eq 6, 3) := by decide +kernel
theorem dX1_nextMachine_34 : decode cX1_nextMachine 34 = .ok (.iload 4, 2) := by decide +kernel
theorem dX1_nextMachine_36 : decode cX1_nextMachine 36 = .ok (.ireturn, 1) := by decide +kernel
theorem dX1_nextMachine_37 : decode cX1_nextMachine 37 = .ok (.iinc 4 1, 3) := by decide +kernel
theorem dX1_nextMachine_40 : decode cX1_nextMachine 40 = .ok (.goto (-37), 3) := by decide +kernel
theorem dX1_nextMachine_43 : decode cX1_nextMachine 43 = .ok (.iconst (-1), 1) := by decide +kernel
theorem dX1_nextMachine_44 : decode cX1_nextMachine 44 = .ok (.ireturn, 1) := by decide +kernel
theorem dX1_firstWithEnd_0 : decode cX1_firstWithEnd 0 = .ok (.iconst 0, 1) := by decide +kernel
theorem dX1_firstWithEnd_1 : decode cX1_firstWithEnd 1 = .ok (.istore_n 2, 1) := by decide +kernel
theorem dX1_firstWithEnd_2 : decode cX1_firstWithEnd 2 = .ok (.iload_n 2, 1) := by decide +kernel
theorem dX1_firstWithEnd_3 : decode cX1_firstWithEnd 3 = .ok (.iload_n 1, 1) := by decide +kernel
theorem dX1_firstWithEnd_4 : decode cX1_firstWithEnd 4 = .ok (.if_icmp .ge 26, 3) := by decide +kernel
theorem dX1_firstWithEnd_7 : decode cX1_firstWithEnd 7 = .ok (.aload_n 0, 1) := by decide +kernel
theorem dX1_firstWithEnd_8 : decode cX1_firstWithEnd 8 = .ok (.getfield 35, 3) := by decide +kernel
theorem dX1_firstWithEnd_11 : decode cX1_firstWithEnd 11 = .ok (.iload_n 2, 1) := by decide +kernel
theorem dX1_firstWithEnd_12 : decode cX1_firstWithEnd 12 = .ok (.iaload, 1) := by decide +kernel
theorem dX1_firstWithEnd_13 : decode cX1_firstWithEnd 13 = .ok (.aload_n 0, 1) := by decide +kernel
theorem dX1_firstWithEnd_14 : decode cX1_firstWithEnd 14 = .ok (.getfield 35, 3) := by decide +kernel
theorem dX1_firstWithEnd_17 : decode cX1_firstWithEnd 17 = .ok (.iload_n 1, 1) := by decide +kernel
theorem dX1_firstWithEnd_18 : decode cX1_firstWithEnd 18 = .ok (.iaload, 1) := by decide +kernel
theorem dX1_firstWithEnd_19 : decode cX1_firstWithEnd 19 = .ok (.if_icmp .ne 5, 3) := by decide +kernel
theorem dX1_firstWithEnd_22 : decode cX1_firstWithEnd 22 = .ok (.iconst 0, 1) := by decide +kernel
theorem dX1_firstWithEnd_23 : decode cX1_firstWithEnd 23 = .ok (.ireturn, 1) := by decide +kernel
theorem dX1_firstWithEnd_24 : decode cX1_firstWithEnd 24 = .ok (.iinc 2 1, 3) := by decide +kernel
theorem dX1_firstWithEnd_27 : decode cX1_firstWithEnd 27 = .ok (.goto (-25), 3) := by decide +kernel
theorem dX1_firstWithEnd_30 : decode cX1_firstWithEnd 30 = .ok (.iconst 1, 1) := by decide +kernel
theorem dX1_firstWithEnd_31 : decode cX1_firstWithEnd 31 = .ok (.ireturn, 1) := by decide +kernel
theorem dX1_withdraw_0 : decode cX1_withdraw 0 = .ok (.aload_n 0, 1) := by decide +kernel
theorem dX1_withdraw_1 : decode cX1_withdraw 1 = .ok (.iload_n 1, 1) := by decide +kernel
theorem dX1_withdraw_2 : decode cX1_withdraw 2 = .ok (.invokevirtual 53, 3) := by decide +kernel
theorem dX1_withdraw_5 : decode cX1_withdraw 5 = .ok (.ifCond .ne 6, 3) := by decide +kernel
theorem dX1_withdraw_8 : decode cX1_withdraw 8 = .ok (.bipush (-2), 2) := by decide +kernel
theorem dX1_withdraw_10 : decode cX1_withdraw 10 = .ok (.ireturn, 1) := by decide +kernel
theorem dX1_withdraw_11 : decode cX1_withdraw 11 = .ok (.aload_n 0, 1) := by decide +kernel
theorem dX1_withdraw_12 : decode cX1_withdraw 12 = .ok (.getfield 20, 3) := by decide +kernel
theorem dX1_withdraw_15 : decode cX1_withdraw 15 = .ok (.iload_n 1, 1) := by decide +kernel
theorem dX1_withdraw_16 : decode cX1_withdraw 16 = .ok (.iaload, 1) := by decide +kernel
theorem dX1_withdraw_17 : decode cX1_withdraw 17 = .ok (.istore_n 2, 1) := by decide +kernel
theorem dX1_withdraw_18 : decode cX1_withdraw 18 = .ok (.aload_n 0, 1) := by decide +kernel
theorem dX1_withdraw_19 : decode cX1_withdraw 19 = .ok (.getfield 20, 3) := by decide +kernel
theorem dX1_withdraw_22 : decode cX1_withdraw 22 = .ok (.iload_n 1, 1) := by decide +kernel
theorem dX1_withdraw_23 : decode cX1_withdraw 23 = .ok (.iconst 0, 1) := by decide +kernel
theorem dX1_withdraw_24 : decode cX1_withdraw 24 = .ok (.iastore, 1) := by decide +kernel
theorem dX1_withdraw_25 : decode cX1_withdraw 25 = .ok (.aload_n 0, 1) := by decide +kernel
theorem dX1_withdraw_26 : decode cX1_withdraw 26 = .ok (.iconst 0, 1) := by decide +kernel
theorem dX1_withdraw_27 : decode cX1_withdraw 27 = .ok (.putfield 49, 3) := by decide +kernel
theorem dX1_withdraw_30 : decode cX1_withdraw 30 = .ok (.iload_n 2, 1) := by decide +kernel
theorem dX1_withdraw_31 : decode cX1_withdraw 31 = .ok (.ireturn, 1) := by decide +kernel
theorem dX1_isHeld_0 : decode cX1_isHeld 0 = .ok (.iload_n 1, 1) := by decide +kernel
theorem dX1_isHeld_1 : decode cX1_isHeld 1 = .ok (.ifCond .lt 22, 3) := by decide +kernel
theorem dX1_isHeld_4 : decode cX1_isHeld 4 = .ok (.iload_n 1, 1) := by decide +kernel
theorem dX1_isHeld_5 : decode cX1_isHeld 5 = .ok (.bipush 7, 2) := by decide +kernel
theorem dX1_isHeld_7 : decode cX1_isHeld 7 = .ok (.if_icmp .gt 16, 3) := by decide +kernel
theorem dX1_isHeld_10 : decode cX1_isHeld 10 = .ok (.aload_n 0, 1) := by decide +kernel
theorem dX1_isHeld_11 : decode cX1_isHeld 11 = .ok (.getfield 20, 3) := by decide +kernel
theorem dX1_isHeld_14 : decode cX1_isHeld 14 = .ok (.iload_n 1, 1) := by decide +kernel
theorem dX1_isHeld_15 : decode cX1_isHeld 15 = .ok (.iaload, 1) := by decide +kernel
theorem dX1_isHeld_16 : decode cX1_isHeld 16 = .ok (.ifCond .le 7, 3) := by decide +kernel
theorem dX1_isHeld_19 : decode cX1_isHeld 19 = .ok (.iconst 1, 1) := by decide +kernel
theorem dX1_isHeld_20 : decode cX1_isHeld 20 = .ok (.goto 4, 3) := by decide +kernel
theorem dX1_isHeld_23 : decode cX1_isHeld 23 = .ok (.iconst 0, 1) := by decide +kernel
theorem dX1_isHeld_24 : decode cX1_isHeld 24 = .ok (.ireturn, 1) := by decide +kernel
theorem dX1_ready_0 : decode cX1_ready 0 = .ok (.iload_n 1, 1) := by decide +kernel
theorem dX1_ready_1 : decode cX1_ready 1 = .ok (.ifCond .lt 11, 3) := by decide +kernel
theorem dX1_ready_4 : decode cX1_ready 4 = .ok (.iload_n 1, 1) := by decide +kernel
theorem dX1_ready_5 : decode cX1_ready 5 = .ok (.aload_n 0, 1) := by decide +kernel
theorem dX1_ready_6 : decode cX1_ready 6 = .ok (.getfield 7, 3) := by decide +kernel
theorem dX1_ready_9 : decode cX1_ready 9 = .ok (.if_icmp .lt 6, 3) := by decide +kernel
theorem dX1_ready_12 : decode cX1_ready 12 = .ok (.bipush (-2), 2) := by decide +kernel
theorem dX1_ready_14 : decode cX1_ready 14 = .ok (.ireturn, 1) := by decide +kernel
theorem dX1_ready_15 : decode cX1_ready 15 = .ok (.aload_n 0, 1) := by decide +kernel
theorem dX1_ready_16 : decode cX1_ready 16 = .ok (.getfield 16, 3) := by decide +kernel
theorem dX1_ready_19 : decode cX1_ready 19 = .ok (.iload_n 1, 1) := by decide +kernel
theorem dX1_ready_20 : decode cX1_ready 20 = .ok (.iaload, 1) := by decide +kernel
theorem dX1_ready_21 : decode cX1_ready 21 = .ok (.istore_n 3, 1) := by decide +kernel
theorem dX1_ready_22 : decode cX1_ready 22 = .ok (.aload_n 0, 1) := by decide +kernel
theorem dX1_ready_23 : decode cX1_ready 23 = .ok (.getfield 16, 3) := by decide +kernel
theorem dX1_ready_26 : decode cX1_ready 26 = .ok (.iload_n 1, 1) := by decide +kernel
theorem dX1_ready_27 : decode cX1_ready 27 = .ok (.iload_n 2, 1) := by decide +kernel
theorem dX1_ready_28 : decode cX1_ready 28 = .ok (.ifCond .ge 7, 3) := by decide +kernel
theorem dX1_ready_31 : decode cX1_ready 31 = .ok (.iconst 0, 1) := by decide +kernel
theorem dX1_ready_32 : decode cX1_ready 32 = .ok (.goto 15, 3) := by decide +kernel
theorem dX1_ready_35 : decode cX1_ready 35 = .ok (.iload_n 2, 1) := by decide +kernel
theorem dX1_ready_36 : decode cX1_ready 36 = .ok (.bipush 60, 2) := by decide +kernel
theorem dX1_ready_38 : decode cX1_ready 38 = .ok (.if_icmp .le 8, 3) := by decide +kernel
theorem dX1_ready_41 : decode cX1_ready 41 = .ok (.bipush 60, 2) := by decide +kernel
theorem dX1_ready_43 : decode cX1_ready 43 = .ok (.goto 4, 3) := by decide +kernel
theorem dX1_ready_46 : decode cX1_ready 46 = .ok (.iload_n 2, 1) := by decide +kernel
theorem dX1_ready_47 : decode cX1_ready 47 = .ok (.iastore, 1) := by decide +kernel
theorem dX1_ready_48 : decode cX1_ready 48 = .ok (.aload_n 0, 1) := by decide +kernel
theorem dX1_ready_49 : decode cX1_ready 49 = .ok (.iconst 0, 1) := by decide +kernel
theorem dX1_ready_50 : decode cX1_ready 50 = .ok (.putfield 49, 3) := by decide +kernel
theorem dX1_ready_53 : decode cX1_ready 53 = .ok (.iload_n 3, 1) := by decide +kernel
theorem dX1_ready_54 : decode cX1_ready 54 = .ok (.ireturn, 1) := by decide +kernel
theorem dX1_end_0 : decode cX1_end 0 = .ok (.aload_n 0, 1) := by decide +kernel
theorem dX1_end_1 : decode cX1_end 1 = .ok (.invokevirtual 56, 3) := by decide +kernel
theorem dX1_end_4 : decode cX1_end 4 = .ok (.aload_n 0, 1) := by decide +kernel
theorem dX1_end_5 : decode cX1_end 5 = .ok (.getfield 59, 3) := by decide +kernel
theorem dX1_end_8 : decode cX1_end 8 = .ok (.ireturn, 1) := by decide +kernel
theorem dX1_makePlan_0 : decode cX1_makePlan 0 = .ok (.aload_n 0, 1) := by decide +kernel
theorem dX1_makePlan_1 : decode cX1_makePlan 1 = .ok (.getfield 49, 3) := by decide +kernel
theorem dX1_makePlan_4 : decode cX1_makePlan 4 = .ok (.ifCond .eq 4, 3) := by decide +kernel
theorem dX1_makePlan_7 : decode cX1_makePlan 7 = .ok (.return_, 1) := by decide +kernel
theorem dX1_makePlan_8 : decode cX1_makePlan 8 = .ok (.aload_n 0, 1) := by decide +kernel
theorem dX1_makePlan_9 : decode cX1_makePlan 9 = .ok (.iconst 1, 1) := by decide +kernel
theorem dX1_makePlan_10 : decode cX1_makePlan 10 = .ok (.putfield 49, 3) := by decide +kernel
theorem dX1_makePlan_13 : decode cX1_makePlan 13 = .ok (.aload_n 0, 1) := by decide +kernel
theorem dX1_makePlan_14 : decode cX1_makePlan 14 = .ok (.invokevirtual 62, 3) := by decide +kernel
theorem dX1_makePlan_17 : decode cX1_makePlan 17 = .ok (.aload_n 0, 1) := by decide +kernel
theorem dX1_makePlan_18 : decode cX1_makePlan 18 = .ok (.invokevirtual 68, 3) := by decide +kernel
theorem dX1_makePlan_21 : decode cX1_makePlan 21 = .ok (.iconst 0, 1) := by decide +kernel
theorem dX1_makePlan_22 : decode cX1_makePlan 22 = .ok (.istore_n 1, 1) := by decide +kernel
theorem dX1_makePlan_23 : decode cX1_makePlan 23 = .ok (.iload_n 1, 1) := by decide +kernel
theorem dX1_makePlan_24 : decode cX1_makePlan 24 = .ok (.bipush 8, 2) := by decide +kernel
theorem dX1_makePlan_26 : decode cX1_makePlan 26 = .ok (.if_icmp .ge 35, 3) := by decide +kernel
theorem dX1_makePlan_29 : decode cX1_makePlan 29 = .ok (.aload_n 0, 1) := by decide +kernel
theorem dX1_makePlan_30 : decode cX1_makePlan 30 = .ok (.getfield 20, 3) := by decide +kernel
theorem dX1_makePlan_33 : decode cX1_makePlan 33 = .ok (.iload_n 1, 1) := by decide +kernel
theorem dX1_makePlan_34 : decode cX1_makePlan 34 = .ok (.iaload, 1) := by decide +kernel
theorem dX1_makePlan_35 : decode cX1_makePlan 35 = .ok (.ifCond .le 20, 3) := by decide +kernel
theorem dX1_makePlan_38 : decode cX1_makePlan 38 = .ok (.aload_n 0, 1) := by decide +kernel
theorem dX1_makePlan_39 : decode cX1_makePlan 39 = .ok (.iload_n 1, 1) := by decide +kernel
theorem dX1_makePlan_40 : decode cX1_makePlan 40 = .ok (.invokevirtual 71, 3) := by decide +kernel
theorem dX1_makePlan_43 : decode cX1_makePlan 43 = .ok (.aload_n 0, 1) := by decide +kernel
theorem dX1_makePlan_44 : decode cX1_makePlan 44 = .ok (.getfield 38, 3) := by decide +kernel
theorem dX1_makePlan_47 : decode cX1_makePlan 47 = .ok (.iload_n 1, 1) := by decide +kernel
theorem dX1_makePlan_48 : decode cX1_makePlan 48 = .ok (.aload_n 0, 1) := by decide +kernel
theorem dX1_makePlan_49 : decode cX1_makePlan 49 = .ok (.getfield 23, 3) := by decide +kernel
theorem dX1_makePlan_52 : decode cX1_makePlan 52 = .ok (.iload_n 1, 1) := by decide +kernel
theorem dX1_makePlan_53 : decode cX1_makePlan 53 = .ok (.iaload, 1) := by decide +kernel
theorem dX1_makePlan_54 : decode cX1_makePlan 54 = .ok (.iastore, 1) := by decide +kernel
theorem dX1_makePlan_55 : decode cX1_makePlan 55 = .ok (.iinc 1 1, 3) := by decide +kernel
theorem dX1_makePlan_58 : decode cX1_makePlan 58 = .ok (.goto (-35), 3) := by decide +kernel
theorem dX1_makePlan_61 : decode cX1_makePlan 61 = .ok (.return_, 1) := by decide +kernel
theorem dX1_findLeastEnd_0 : decode cX1_findLeastEnd 0 = .ok (.aload_n 0, 1) := by decide +kernel
theorem dX1_findLeastEnd_1 : decode cX1_findLeastEnd 1 = .ok (.invokevirtual 75, 3) := by decide +kernel
theorem dX1_findLeastEnd_4 : decode cX1_findLeastEnd 4 = .ok (.istore_n 1, 1) := by decide +kernel
theorem dX1_findLeastEnd_5 : decode cX1_findLeastEnd 5 = .ok (.aload_n 0, 1) := by decide +kernel
theorem dX1_findLeastEnd_6 : decode cX1_findLeastEnd 6 = .ok (.invokevirtual 78, 3) := by decide +kernel
theorem dX1_findLeastEnd_9 : decode cX1_findLeastEnd 9 = .ok (.istore_n 2, 1) := by decide +kernel
theorem dX1_findLeastEnd_10 : decode cX1_findLeastEnd 10 = .ok (.iconst 0, 1) := by decide +kernel
theorem dX1_findLeastEnd_11 : decode cX1_findLeastEnd 11 = .ok (.istore_n 3, 1) := by decide +kernel
theorem dX1_findLeastEnd_12 : decode cX1_findLeastEnd 12 = .ok (.iload_n 3, 1) := by decide +kernel
theorem dX1_findLeastEnd_13 : decode cX1_findLeastEnd 13 = .ok (.bipush 10, 2) := by decide +kernel
theorem dX1_findLeastEnd_15 : decode cX1_findLeastEnd 15 = .ok (.if_icmp .ge 45, 3) := by decide +kernel
theorem dX1_findLeastEnd_18 : decode cX1_findLeastEnd 18 = .ok (.iload_n 1, 1) := by decide +kernel
theorem dX1_findLeastEnd_19 : decode cX1_findLeastEnd 19 = .ok (.iload_n 2, 1) := by decide +kernel
theorem dX1_findLeastEnd_20 : decode cX1_findLeastEnd 20 = .ok (.if_icmp .ge 40, 3) := by decide +kernel
theorem dX1_findLeastEnd_23 : decode cX1_findLeastEnd 23 = .ok (.iload_n 1, 1) := by decide +kernel
theorem dX1_findLeastEnd_24 : decode cX1_findLeastEnd 24 = .ok (.iload_n 2, 1) := by decide +kernel
theorem dX1_findLeastEnd_25 : decode cX1_findLeastEnd 25 = .ok (.iadd, 1) := by decide +kernel
theorem dX1_findLeastEnd_26 : decode cX1_findLeastEnd 26 = .ok (.iconst 2, 1) := by decide +kernel
theorem dX1_findLeastEnd_27 : decode cX1_findLeastEnd 27 = .ok (.idiv, 1) := by decide +kernel
theorem dX1_findLeastEnd_28 : decode cX1_findLeastEnd 28 = .ok (.istore 4, 2) := by decide +kernel
theorem dX1_findLeastEnd_30 : decode cX1_findLeastEnd 30 = .ok (.aload_n 0, 1) := by decide +kernel
theorem dX1_findLeastEnd_31 : decode cX1_findLeastEnd 31 = .ok (.iload 4, 2) := by decide +kernel
theorem dX1_findLeastEnd_33 : decode cX1_findLeastEnd 33 = .ok (.invokevirtual 65, 3) := by decide +kernel
theorem dX1_findLeastEnd_36 : decode cX1_findLeastEnd 36 = .ok (.istore 5, 2) := by decide +kernel
theorem dX1_findLeastEnd_38 : decode cX1_findLeastEnd 38 = .ok (.iload 5, 2) := by decide +kernel
theorem dX1_findLeastEnd_40 : decode cX1_findLeastEnd 40 = .ok (.ifCond .eq 9, 3) := by decide +kernel
theorem dX1_findLeastEnd_43 : decode cX1_findLeastEnd 43 = .ok (.iload 4, 2) := by decide +kernel
theorem dX1_findLeastEnd_45 : decode cX1_findLeastEnd 45 = .ok (.istore_n 2, 1) := by decide +kernel
theorem dX1_findLeastEnd_46 : decode cX1_findLeastEnd 46 = .ok (.goto 8, 3) := by decide +kernel
theorem dX1_findLeastEnd_49 : decode cX1_findLeastEnd 49 = .ok (.iload 4, 2) := by decide +kernel
theorem dX1_findLeastEnd_51 : decode cX1_findLeastEnd 51 = .ok (.iconst 1, 1) := by decide +kernel
theorem dX1_findLeastEnd_52 : decode cX1_findLeastEnd 52 = .ok (.iadd, 1) := by decide +kernel
theorem dX1_findLeastEnd_53 : decode cX1_findLeastEnd 53 = .ok (.istore_n 1, 1) := by decide +kernel
theorem dX1_findLeastEnd_54 : decode cX1_findLeastEnd 54 = .ok (.iinc 3 1, 3) := by decide +kernel
theorem dX1_findLeastEnd_57 : decode cX1_findLeastEnd 57 = .ok (.goto (-45), 3) := by decide +kernel
theorem dX1_findLeastEnd_60 : decode cX1_findLeastEnd 60 = .ok (.aload_n 0, 1) := by decide +kernel
theorem dX1_findLeastEnd_61 : decode cX1_findLeastEnd 61 = .ok (.iload_n 2, 1) := by decide +kernel
theorem dX1_findLeastEnd_62 : decode cX1_findLeastEnd 62 = .ok (.putfield 59, 3) := by decide +kernel
theorem dX1_findLeastEnd_65 : decode cX1_findLeastEnd 65 = .ok (.return_, 1) := by decide +kernel
theorem dX1_lowerBound_0 : decode cX1_lowerBound 0 = .ok (.iconst 0, 1) := by decide +kernel
theorem dX1_lowerBound_1 : decode cX1_lowerBound 1 = .ok (.istore_n 1, 1) := by decide +kernel
theorem dX1_lowerBound_2 : decode cX1_lowerBound 2 = .ok (.iconst 0, 1) := by decide +kernel
theorem dX1_lowerBound_3 : decode cX1_lowerBound 3 = .ok (.istore_n 2, 1) := by decide +kernel
theorem dX1_lowerBound_4 : decode cX1_lowerBound 4 = .ok (.bipush 60, 2) := by decide +kernel
theorem dX1_lowerBound_6 : decode cX1_lowerBound 6 = .ok (.istore_n 3, 1) := by decide +kernel
theorem dX1_lowerBound_7 : decode cX1_lowerBound 7 = .ok (.iconst 0, 1) := by decide +kernel
theorem dX1_lowerBound_8 : decode cX1_lowerBound 8 = .ok (.istore 4, 2) := by decide +kernel
theorem dX1_lowerBound_10 : decode cX1_lowerBound 10 = .ok (.iload 4, 2) := by decide +kernel
theorem dX1_lowerBound_12 : decode cX1_lowerBound 12 = .ok (.aload_n 0, 1) := by decide +kernel
theorem dX1_lowerBound_13 : decode cX1_lowerBound 13 = .ok (.getfield 7, 3) := by decide +kernel
theorem dX1_lowerBound_16 : decode cX1_lowerBound 16 = .ok (.if_icmp .ge 65, 3) := by decide +kernel
theorem dX1_lowerBound_19 : decode cX1_lowerBound 19 = .ok (.iload_n 1, 1) := by decide +kernel
theorem dX1_lowerBound_20 : decode cX1_lowerBound 20 = .ok (.aload_n 0, 1) := by decide +kernel
theorem dX1_lowerBound_21 : decode cX1_lowerBound 21 = .ok (.getfield 16, 3) := by decide +kernel
theorem dX1_lowerBound_24 : decode cX1_lowerBound 24 = .ok (.iload 4, 2) := by decide +kernel
theorem dX1_lowerBound_26 : decode cX1_lowerBound 26 = .ok (.iaload, 1) := by decide +kernel
theorem dX1_lowerBound_27 : decode cX1_lowerBound 27 = .ok (.iadd, 1) := by decide +kernel
theorem dX1_lowerBound_28 : decode cX1_lowerBound 28 = .ok (.istore_n 1, 1) := by decide +kernel
theorem dX1_lowerBound_29 : decode cX1_lowerBound 29 = .ok (.aload_n 0, 1) := by decide +kernel
theorem dX1_lowerBound_30 : decode cX1_lowerBound 30 = .ok (.getfield 16, 3) := by decide +kernel
theorem dX1_lowerBound_33 : decode cX1_lowerBound 33 = .ok (.iload 4, 2) := by decide +kernel
theorem dX1_lowerBound_35 : decode cX1_lowerBound 35 = .ok (.iaload, 1) := by decide +kernel
theorem dX1_lowerBound_36 : decode cX1_lowerBound 36 = .ok (.iload_n 2, 1) := by decide +kernel
theorem dX1_lowerBound_37 : decode cX1_lowerBound 37 = .ok (.if_icmp .le 13, 3) := by decide +kernel
theorem dX1_lowerBound_40 : decode cX1_lowerBound 40 = .ok (.aload_n 0, 1) := by decide +kernel
theorem dX1_lowerBound_41 : decode cX1_lowerBound 41 = .ok (.getfield 16, 3) := by decide +kernel
theorem dX1_lowerBound_44 : decode cX1_lowerBound 44 = .ok (.iload 4, 2) := by decide +kernel
theorem dX1_lowerBound_46 : decode cX1_lowerBound 46 = .ok (.iaload, 1) := by decide +kernel
theorem dX1_lowerBound_47 : decode cX1_lowerBound 47 = .ok (.goto 4, 3) := by decide +kernel
theorem dX1_lowerBound_50 : decode cX1_lowerBound 50 = .ok (.iload_n 2, 1) := by decide +kernel
theorem dX1_lowerBound_51 : decode cX1_lowerBound 51 = .ok (.istore_n 2, 1) := by decide +kernel
theorem dX1_lowerBound_52 : decode cX1_lowerBound 52 = .ok (.aload_n 0, 1) := by decide +kernel
theorem dX1_lowerBound_53 : decode cX1_lowerBound 53 = .ok (.getfield 16, 3) := by decide +kernel
theorem dX1_lowerBound_56 : decode cX1_lowerBound 56 = .ok (.iload 4, 2) := by decide +kernel
theorem dX1_lowerBound_58 : decode cX1_lowerBound 58 = .ok (.iaload, 1) := by decide +kernel
theorem dX1_lowerBound_59 : decode cX1_lowerBound 59 = .ok (.iload_n 3, 1) := by decide +kernel
theorem dX1_lowerBound_60 : decode cX1_lowerBound 60 = .ok (.if_icmp .ge 13, 3) := by decide +kernel
theorem dX1_lowerBound_63 : decode cX1_lowerBound 63 = .ok (.aload_n 0, 1) := by decide +kernel
theorem dX1_lowerBound_64 : decode cX1_lowerBound 64 = .ok (.getfield 16, 3) := by decide +kernel
theorem dX1_lowerBound_67 : decode cX1_lowerBound 67 = .ok (.iload 4, 2) := by decide +kernel
theorem dX1_lowerBound_69 : decode cX1_lowerBound 69 = .ok (.iaload, 1) := by decide +kernel
theorem dX1_lowerBound_70 : decode cX1_lowerBound 70 = .ok (.goto 4, 3) := by decide +kernel
theorem dX1_lowerBound_73 : decode cX1_lowerBound 73 = .ok (.iload_n 3, 1) := by decide +kernel
theorem dX1_lowerBound_74 : decode cX1_lowerBound 74 = .ok (.istore_n 3, 1) := by decide +kernel
theorem dX1_lowerBound_75 : decode cX1_lowerBound 75 = .ok (.iinc 4 1, 3) := by decide +kernel
theorem dX1_lowerBound_78 : decode cX1_lowerBound 78 = .ok (.goto (-68), 3) := by decide +kernel
theorem dX1_lowerBound_81 : decode cX1_lowerBound 81 = .ok (.iconst 0, 1) := by decide +kernel
theorem dX1_lowerBound_82 : decode cX1_lowerBound 82 = .ok (.istore 4, 2) := by decide +kernel
theorem dX1_lowerBound_84 : decode cX1_lowerBound 84 = .ok (.iload 4, 2) := by decide +kernel
theorem dX1_lowerBound_86 : decode cX1_lowerBound 86 = .ok (.bipush 8, 2) := by decide +kernel
theorem dX1_lowerBound_88 : decode cX1_lowerBound 88 = .ok (.if_icmp .ge 57, 3) := by decide +kernel
theorem dX1_lowerBound_91 : decode cX1_lowerBound 91 = .ok (.iload_n 1, 1) := by decide +kernel
theorem dX1_lowerBound_92 : decode cX1_lowerBound 92 = .ok (.aload_n 0, 1) := by decide +kernel
theorem dX1_lowerBound_93 : decode cX1_lowerBound 93 = .ok (.getfield 20, 3) := by decide +kernel
theorem dX1_lowerBound_96 : decode cX1_lowerBound 96 = .ok (.iload 4, 2) := by decide +kernel
theorem dX1_lowerBound_98 : decode cX1_lowerBound 98 = .ok (.iaload, 1) := by decide +kernel
theorem dX1_lowerBound_99 : decode cX1_lowerBound 99 = .ok (.iadd, 1) := by decide +kernel
theorem dX1_lowerBound_100 : decode cX1_lowerBound 100 = .ok (.istore_n 1, 1) := by decide +kernel
theorem dX1_lowerBound_101 : decode cX1_lowerBound 101 = .ok (.aload_n 0, 1) := by decide +kernel
theorem dX1_lowerBound_102 : decode cX1_lowerBound 102 = .ok (.getfield 20, 3) := by decide +kernel
theorem dX1_lowerBound_105 : decode cX1_lowerBound 105 = .ok (.iload 4, 2) := by decide +kernel
theorem dX1_lowerBound_107 : decode cX1_lowerBound 107 = .ok (.iaload, 1) := by decide +kernel
theorem dX1_lowerBound_108 : decode cX1_lowerBound 108 = .ok (.ifCond .ne 7, 3) := by decide +kernel
theorem dX1_lowerBound_111 : decode cX1_lowerBound 111 = .ok (.iconst 0, 1) := by decide +kernel
theorem dX1_lowerBound_112 : decode cX1_lowerBound 112 = .ok (.goto 12, 3) := by decide +kernel
theorem dX1_lowerBound_115 : decode cX1_lowerBound 115 = .ok (.iload_n 3, 1) := by decide +kernel
theorem dX1_lowerBound_116 : decode cX1_lowerBound 116 = .ok (.aload_n 0, 1) := by decide +kernel
theorem dX1_lowerBound_117 : decode cX1_lowerBound 117 = .ok (.getfield 20, 3) := by decide +kernel
theorem dX1_lowerBound_120 : decode cX1_lowerBound 120 = .ok (.iload 4, 2) := by decide +kernel
theorem dX1_lowerBound_122 : decode cX1_lowerBound 122 = .ok (.iaload, 1) := by decide +kernel
theorem dX1_lowerBound_123 : decode cX1_lowerBound 123 = .ok (.iadd, 1) := by decide +kernel
theorem dX1_lowerBound_124 : decode cX1_lowerBound 124 = .ok (.istore 5, 2) := by decide +kernel
theorem dX1_lowerBound_126 : decode cX1_lowerBound 126 = .ok (.iload 5, 2) := by decide +kernel
theorem dX1_lowerBound_128 : decode cX1_lowerBound 128 = .ok (.iload_n 2, 1) := by decide +kernel
theorem dX1_lowerBound_129 : decode cX1_lowerBound 129 = .ok (.if_icmp .le 8, 3) := by decide +kernel
theorem dX1_lowerBound_132 : decode cX1_lowerBound 132 = .ok (.iload 5, 2) := by decide +kernel
theorem dX1_lowerBound_134 : decode cX1_lowerBound 134 = .ok (.goto 4, 3) := by decide +kernel
theorem dX1_lowerBound_137 : decode cX1_lowerBound 137 = .ok (.iload_n 2, 1) := by decide +kernel
theorem dX1_lowerBound_138 : decode cX1_lowerBound 138 = .ok (.istore_n 2, 1) := by decide +kernel
theorem dX1_lowerBound_139 : decode cX1_lowerBound 139 = .ok (.iinc 4 1, 3) := by decide +kernel
theorem dX1_lowerBound_142 : decode cX1_lowerBound 142 = .ok (.goto (-58), 3) := by decide +kernel
theorem dX1_lowerBound_145 : decode cX1_lowerBound 145 = .ok (.iload_n 1, 1) := by decide +kernel
theorem dX1_lowerBound_146 : decode cX1_lowerBound 146 = .ok (.aload_n 0, 1) := by decide +kernel
theorem dX1_lowerBound_147 : decode cX1_lowerBound 147 = .ok (.getfield 7, 3) := by decide +kernel
theorem dX1_lowerBound_150 : decode cX1_lowerBound 150 = .ok (.iadd, 1) := by decide +kernel
theorem dX1_lowerBound_151 : decode cX1_lowerBound 151 = .ok (.iconst 1, 1) := by decide +kernel
theorem dX1_lowerBound_152 : decode cX1_lowerBound 152 = .ok (.isub, 1) := by decide +kernel
theorem dX1_lowerBound_153 : decode cX1_lowerBound 153 = .ok (.aload_n 0, 1) := by decide +kernel
theorem dX1_lowerBound_154 : decode cX1_lowerBound 154 = .ok (.getfield 7, 3) := by decide +kernel
theorem dX1_lowerBound_157 : decode cX1_lowerBound 157 = .ok (.idiv, 1) := by decide +kernel
theorem dX1_lowerBound_158 : decode cX1_lowerBound 158 = .ok (.istore 4, 2) := by decide +kernel
theorem dX1_lowerBound_160 : decode cX1_lowerBound 160 = .ok (.iload 4, 2) := by decide +kernel
theorem dX1_lowerBound_162 : decode cX1_lowerBound 162 = .ok (.iload_n 2, 1) := by decide +kernel
theorem dX1_lowerBound_163 : decode cX1_lowerBound 163 = .ok (.if_icmp .le 8, 3) := by decide +kernel
theorem dX1_lowerBound_166 : decode cX1_lowerBound 166 = .ok (.iload 4, 2) := by decide +kernel
theorem dX1_lowerBound_168 : decode cX1_lowerBound 168 = .ok (.goto 4, 3) := by decide +kernel
theorem dX1_lowerBound_171 : decode cX1_lowerBound 171 = .ok (.iload_n 2, 1) := by decide +kernel
theorem dX1_lowerBound_172 : decode cX1_lowerBound 172 = .ok (.ireturn, 1) := by decide +kernel
theorem dX1_longestFirst_0 : decode cX1_longestFirst 0 = .ok (.aload_n 0, 1) := by decide +kernel
theorem dX1_longestFirst_1 : decode cX1_longestFirst 1 = .ok (.invokevirtual 81, 3) := by decide +kernel
theorem dX1_longestFirst_4 : decode cX1_longestFirst 4 = .ok (.iconst 0, 1) := by decide +kernel
theorem dX1_longestFirst_5 : decode cX1_longestFirst 5 = .ok (.istore_n 1, 1) := by decide +kernel
theorem dX1_longestFirst_6 : decode cX1_longestFirst 6 = .ok (.iconst 0, 1) := by decide +kernel
theorem dX1_longestFirst_7 : decode cX1_longestFirst 7 = .ok (.istore_n 2, 1) := by decide +kernel
theorem dX1_longestFirst_8 : decode cX1_longestFirst 8 = .ok (.iload_n 2, 1) := by decide +kernel
theorem dX1_longestFirst_9 : decode cX1_longestFirst 9 = .ok (.aload_n 0, 1) := by decide +kernel
theorem dX1_longestFirst_10 : decode cX1_longestFirst 10 = .ok (.getfield 84, 3) := by decide +kernel
theorem dX1_longestFirst_13 : decode cX1_longestFirst 13 = .ok (.if_icmp .ge 34, 3) := by decide +kernel
theorem dX1_longestFirst_16 : decode cX1_longestFirst 16 = .ok (.aload_n 0, 1) := by decide +kernel
theorem dX1_longestFirst_17 : decode cX1_longestFirst 17 = .ok (.invokevirtual 87, 3) := by decide +kernel
theorem dX1_longestFirst_20 : decode cX1_longestFirst 20 = .ok (.istore_n 3, 1) := by decide +kernel
theorem dX1_longestFirst_21 : decode cX1_longestFirst 21 = .ok (.aload_n 0, 1) := by decide +kernel
theorem dX1_longestFirst_22 : decode cX1_longestFirst 22 = .ok (.getfield 35, 3) := by decide +kernel
theorem dX1_longestFirst_25 : decode cX1_longestFirst 25 = .ok (.iload_n 3, 1) := by decide +kernel
theorem dX1_longestFirst_26 : decode cX1_longestFirst 26 = .ok (.dup2, 1) := by decide +kernel
theorem dX1_longestFirst_27 : decode cX1_longestFirst 27 = .ok (.iaload, 1) := by decide +kernel
theorem dX1_longestFirst_28 : decode cX1_longestFirst 28 = .ok (.aload_n 0, 1) := by decide +kernel
theorem dX1_longestFirst_29 : decode cX1_longestFirst 29 = .ok (.getfield 20, 3) := by decide +kernel
theorem dX1_longestFirst_32 : decode cX1_longestFirst 32 = .ok (.aload_n 0, 1) := by decide +kernel
theorem dX1_longestFirst_33 : decode cX1_longestFirst 33 = .ok (.getfield 26, 3) := by decide +kernel
theorem dX1_longestFirst_36 : decode cX1_longestFirst 36 = .ok (.iload_n 2, 1) := by decide +kernel
theorem dX1_longestFirst_37 : decode cX1_longestFirst 37 = .ok (.iaload, 1) := by decide +kernel
theorem dX1_longestFirst_38 : decode cX1_longestFirst 38 = .ok (.iaload, 1) := by decide +kernel
theorem dX1_longestFirst_39 : decode cX1_longestFirst 39 = .ok (.iadd, 1) := by decide +kernel
theorem dX1_longestFirst_40 : decode cX1_longestFirst 40 = .ok (.iastore, 1) := by decide +kernel
theorem dX1_longestFirst_41 : decode cX1_longestFirst 41 = .ok (.iinc 2 1, 3) := by decide +kernel
theorem dX1_longestFirst_44 : decode cX1_longestFirst 44 = .ok (.goto (-36), 3) := by decide +kernel
theorem dX1_longestFirst_47 : decode cX1_longestFirst 47 = .ok (.iconst 0, 1) := by decide +kernel
theorem dX1_longestFirst_48 : decode cX1_longestFirst 48 = .ok (.istore_n 2, 1) := by decide +kernel
theorem dX1_longestFirst_49 : decode cX1_longestFirst 49 = .ok (.iload_n 2, 1) := by decide +kernel
theorem dX1_longestFirst_50 : decode cX1_longestFirst 50 = .ok (.aload_n 0, 1) := by decide +kernel
theorem dX1_longestFirst_51 : decode cX1_longestFirst 51 = .ok (.getfield 7, 3) := by decide +kernel
theorem dX1_longestFirst_54 : decode cX1_longestFirst 54 = .ok (.if_icmp .ge 30, 3) := by decide +kernel
theorem dX1_longestFirst_57 : decode cX1_longestFirst 57 = .ok (.aload_n 0, 1) := by decide +kernel
theorem dX1_longestFirst_58 : decode cX1_longestFirst 58 = .ok (.getfield 35, 3) := by decide +kernel
theorem dX1_longestFirst_61 : decode cX1_longestFirst 61 = .ok (.iload_n 2, 1) := by decide +kernel
theorem dX1_longestFirst_62 : decode cX1_longestFirst 62 = .ok (.iaload, 1) := by decide +kernel
theorem dX1_longestFirst_63 : decode cX1_longestFirst 63 = .ok (.iload_n 1, 1) := by decide +kernel
theorem dX1_longestFirst_64 : decode cX1_longestFirst 64 = .ok (.if_icmp .le 12, 3) := by decide +kernel
theorem dX1_longestFirst_67 : decode cX1_longestFirst 67 = .ok (.aload_n 0, 1) := by decide +kernel
theorem dX1_longestFirst_68 : decode cX1_longestFirst 68 = .ok (.getfield 35, 3) := by decide +kernel
theorem dX1_longestFirst_71 : decode cX1_longestFirst 71 = .ok (.iload_n 2, 1) := by decide +kernel
theorem dX1_longestFirst_72 : decode cX1_longestFirst 72 = .ok (.iaload, 1) := by decide +kernel
theorem dX1_longestFirst_73 : decode cX1_longestFirst 73 = .ok (.goto 4, 3) := by decide +kernel
theorem dX1_longestFirst_76 : decode cX1_longestFirst 76 = .ok (.iload_n 1, 1) := by decide +kernel
theorem dX1_longestFirst_77 : decode cX1_longestFirst 77 = .ok (.istore_n 1, 1) := by decide +kernel
theorem dX1_longestFirst_78 : decode cX1_longestFirst 78 = .ok (.iinc 2 1, 3) := by decide +kernel
theorem dX1_longestFirst_81 : decode cX1_longestFirst 81 = .ok (.goto (-32), 3) := by decide +kernel
theorem dX1_longestFirst_84 : decode cX1_longestFirst 84 = .ok (.iload_n 1, 1) := by decide +kernel
theorem dX1_longestFirst_85 : decode cX1_longestFirst 85 = .ok (.ireturn, 1) := by decide +kernel
theorem dX1_earliestMachine_0 : decode cX1_earliestMachine 0 = .ok (.iconst 0, 1) := by decide +kernel
theorem dX1_earliestMachine_1 : decode cX1_earliestMachine 1 = .ok (.istore_n 1, 1) := by decide +kernel
theorem dX1_earliestMachine_2 : decode cX1_earliestMachine 2 = .ok (.iconst 1, 1) := by decide +kernel
theorem dX1_earliestMachine_3 : decode cX1_earliestMachine 3 = .ok (.istore_n 2, 1) := by decide +kernel
theorem dX1_earliestMachine_4 : decode cX1_earliestMachine 4 = .ok (.iload_n 2, 1) := by decide +kernel
theorem dX1_earliestMachine_5 : decode cX1_earliestMachine 5 = .ok (.aload_n 0, 1) := by decide +kernel
theorem dX1_earliestMachine_6 : decode cX1_earliestMachine 6 = .ok (.getfield 7, 3) := by decide +kernel
theorem dX1_earliestMachine_9 : decode cX1_earliestMachine 9 = .ok (.if_icmp .ge 26, 3) := by decide +kernel
theorem dX1_earliestMachine_12 : decode cX1_earliestMachine 12 = .ok (.aload_n 0, 1) := by decide +kernel
theorem dX1_earliestMachine_13 : decode cX1_earliestMachine 13 = .ok (.getfield 35, 3) := by decide +kernel
theorem dX1_earliestMachine_16 : decode cX1_earliestMachine 16 = .ok (.iload_n 2, 1) := by decide +kernel
theorem dX1_earliestMachine_17 : decode cX1_earliestMachine 17 = .ok (.iaload, 1) := by decide +kernel
theorem dX1_earliestMachine_18 : decode cX1_earliestMachine 18 = .ok (.aload_n 0, 1) := by decide +kernel
theorem dX1_earliestMachine_19 : decode cX1_earliestMachine 19 = .ok (.getfield 35, 3) := by decide +kernel
theorem dX1_earliestMachine_22 : decode cX1_earliestMachine 22 = .ok (.iload_n 1, 1) := by decide +kernel
theorem dX1_earliestMachine_23 : decode cX1_earliestMachine 23 = .ok (.iaload, 1) := by decide +kernel
theorem dX1_earliestMachine_24 : decode cX1_earliestMachine 24 = .ok (.if_icmp .ge 5, 3) := by decide +kernel
theorem dX1_earliestMachine_27 : decode cX1_earliestMachine 27 = .ok (.iload_n 2, 1) := by decide +kernel
theorem dX1_earliestMachine_28 : decode cX1_earliestMachine 28 = .ok (.istore_n 1, 1) := by decide +kernel
theorem dX1_earliestMachine_29 : decode cX1_earliestMachine 29 = .ok (.iinc 2 1, 3) := by decide +kernel
theorem dX1_earliestMachine_32 : decode cX1_earliestMachine 32 = .ok (.goto (-28), 3) := by decide +kernel
theorem dX1_earliestMachine_35 : decode cX1_earliestMachine 35 = .ok (.iload_n 1, 1) := by decide +kernel
theorem dX1_earliestMachine_36 : decode cX1_earliestMachine 36 = .ok (.ireturn, 1) := by decide +kernel
theorem dX1_fixJob_0 : decode cX1_fixJob 0 = .ok (.iconst 0, 1) := by decide +kernel
theorem dX1_fixJob_1 : decode cX1_fixJob 1 = .ok (.istore_n 2, 1) := by decide +kernel
theorem dX1_fixJob_2 : decode cX1_fixJob 2 = .ok (.iload_n 2, 1) := by decide +kernel
theorem dX1_fixJob_3 : decode cX1_fixJob 3 = .ok (.aload_n 0, 1) := by decide +kernel
theorem dX1_fixJob_4 : decode cX1_fixJob 4 = .ok (.getfield 7, 3) := by decide +kernel
theorem dX1_fixJob_7 : decode cX1_fixJob 7 = .ok (.if_icmp .ge 30, 3) := by decide +kernel
theorem dX1_fixJob_10 : decode cX1_fixJob 10 = .ok (.aload_n 0, 1) := by decide +kernel
theorem dX1_fixJob_11 : decode cX1_fixJob 11 = .ok (.getfield 23, 3) := by decide +kernel
theorem dX1_fixJob_14 : decode cX1_fixJob 14 = .ok (.iload_n 1, 1) := by decide +kernel
theorem dX1_fixJob_15 : decode cX1_fixJob 15 = .ok (.iload_n 2, 1) := by decide +kernel
theorem dX1_fixJob_16 : decode cX1_fixJob 16 = .ok (.iastore, 1) := by decide +kernel
theorem dX1_fixJob_17 : decode cX1_fixJob 17 = .ok (.aload_n 0, 1) := by decide +kernel
theorem dX1_fixJob_18 : decode cX1_fixJob 18 = .ok (.aload_n 0, 1) := by decide +kernel
theorem dX1_fixJob_19 : decode cX1_fixJob 19 = .ok (.getfield 59, 3) := by decide +kernel
theorem dX1_fixJob_22 : decode cX1_fixJob 22 = .ok (.invokevirtual 65, 3) := by decide +kernel
theorem dX1_fixJob_25 : decode cX1_fixJob 25 = .ok (.istore_n 3, 1) := by decide +kernel
theorem dX1_fixJob_26 : decode cX1_fixJob 26 = .ok (.iload_n 3, 1) := by decide +kernel
theorem dX1_fixJob_27 : decode cX1_fixJob 27 = .ok (.ifCond .eq 4, 3) := by decide +kernel
theorem dX1_fixJob_30 : decode cX1_fixJob 30 = .ok (.return_, 1) := by decide +kernel
theorem dX1_fixJob_31 : decode cX1_fixJob 31 = .ok (.iinc 2 1, 3) := by decide +kernel
theorem dX1_fixJob_34 : decode cX1_fixJob 34 = .ok (.goto (-32), 3) := by decide +kernel
theorem dX1_fixJob_37 : decode cX1_fixJob 37 = .ok (.return_, 1) := by decide +kernel
theorem dX1_machineOf_0 : decode cX1_machineOf 0 = .ok (.aload_n 0, 1) := by decide +kernel
theorem dX1_machineOf_1 : decode cX1_machineOf 1 = .ok (.iload_n 1, 1) := by decide +kernel
theorem dX1_machineOf_2 : decode cX1_machineOf 2 = .ok (.invokevirtual 53, 3) := by decide +kernel
theorem dX1_machineOf_5 : decode cX1_machineOf 5 = .ok (.ifCond .ne 6, 3) := by decide +kernel
theorem dX1_machineOf_8 : decode cX1_machineOf 8 = .ok (.bipush (-2), 2) := by decide +kernel
theorem dX1_machineOf_10 : decode cX1_machineOf 10 = .ok (.ireturn, 1) := by decide +kernel
theorem dX1_machineOf_11 : decode cX1_machineOf 11 = .ok (.aload_n 0, 1) := by decide +kernel
theorem dX1_machineOf_12 : decode cX1_machineOf 12 = .ok (.invokevirtual 56, 3) := by decide +kernel
theorem dX1_machineOf_15 : decode cX1_machineOf 15 = .ok (.aload_n 0, 1) := by decide +kernel
theorem dX1_machineOf_16 : decode cX1_machineOf 16 = .ok (.getfield 38, 3) := by decide +kernel
theorem dX1_machineOf_19 : decode cX1_machineOf 19 = .ok (.iload_n 1, 1) := by decide +kernel
theorem dX1_machineOf_20 : decode cX1_machineOf 20 = .ok (.iaload, 1) := by decide +kernel
theorem dX1_machineOf_21 : decode cX1_machineOf 21 = .ok (.ireturn, 1) := by decide +kernel
theorem dX1_endOf_0 : decode cX1_endOf 0 = .ok (.iload_n 1, 1) := by decide +kernel
theorem dX1_endOf_1 : decode cX1_endOf 1 = .ok (.ifCond .lt 11, 3) := by decide +kernel
theorem dX1_endOf_4 : decode cX1_endOf 4 = .ok (.iload_n 1, 1) := by decide +kernel
theorem dX1_endOf_5 : decode cX1_endOf 5 = .ok (.aload_n 0, 1) := by decide +kernel
end
section
set_option maxRecDepth 100000
theorem dX1_endOf_6 : decode cX1_endOf 6 = .ok (.getfield 7, 3) := by decide +kernel
theorem dX1_endOf_9 : decode cX1_endOf 9 = .ok (.if_icmp .lt 6, 3) := by decide +kernel
theorem dX1_endOf_12 : decode cX1_endOf 12 = .ok (.bipush (-2), 2) := by decide +kernel
theorem dX1_endOf_14 : decode cX1_endOf 14 = .ok (.ireturn, 1) := by decide +kernel
theorem dX1_endOf_15 : decode cX1_endOf 15 = .ok (.aload_n 0, 1) := by decide +kernel
theorem dX1_endOf_16 : decode cX1_endOf 16 = .ok (.invokevirtual 56, 3) := by decide +kernel
theorem dX1_endOf_19 : decode cX1_endOf 19 = .ok (.aload_n 0, 1) := by decide +kernel
theorem dX1_endOf_20 : decode cX1_endOf 20 = .ok (.getfield 16, 3) := by decide +kernel
theorem dX1_endOf_23 : decode cX1_endOf 23 = .ok (.iload_n 1, 1) := by decide +kernel
theorem dX1_endOf_24 : decode cX1_endOf 24 = .ok (.iaload, 1) := by decide +kernel
theorem dX1_endOf_25 : decode cX1_endOf 25 = .ok (.istore_n 2, 1) := by decide +kernel
theorem dX1_endOf_26 : decode cX1_endOf 26 = .ok (.iconst 0, 1) := by decide +kernel
theorem dX1_endOf_27 : decode cX1_endOf 27 = .ok (.istore_n 3, 1) := by decide +kernel
theorem dX1_endOf_28 : decode cX1_endOf 28 = .ok (.iload_n 3, 1) := by decide +kernel
theorem dX1_endOf_29 : decode cX1_endOf 29 = .ok (.bipush 8, 2) := by decide +kernel
theorem dX1_endOf_31 : decode cX1_endOf 31 = .ok (.if_icmp .ge 37, 3) := by decide +kernel
theorem dX1_endOf_34 : decode cX1_endOf 34 = .ok (.aload_n 0, 1) := by decide +kernel
theorem dX1_endOf_35 : decode cX1_endOf 35 = .ok (.getfield 20, 3) := by decide +kernel
theorem dX1_endOf_38 : decode cX1_endOf 38 = .ok (.iload_n 3, 1) := by decide +kernel
theorem dX1_endOf_39 : decode cX1_endOf 39 = .ok (.iaload, 1) := by decide +kernel
theorem dX1_endOf_40 : decode cX1_endOf 40 = .ok (.ifCond .le 22, 3) := by decide +kernel
theorem dX1_endOf_43 : decode cX1_endOf 43 = .ok (.aload_n 0, 1) := by decide +kernel
theorem dX1_endOf_44 : decode cX1_endOf 44 = .ok (.getfield 38, 3) := by decide +kernel
theorem dX1_endOf_47 : decode cX1_endOf 47 = .ok (.iload_n 3, 1) := by decide +kernel
theorem dX1_endOf_48 : decode cX1_endOf 48 = .ok (.iaload, 1) := by decide +kernel
theorem dX1_endOf_49 : decode cX1_endOf 49 = .ok (.iload_n 1, 1) := by decide +kernel
theorem dX1_endOf_50 : decode cX1_endOf 50 = .ok (.if_icmp .ne 12, 3) := by decide +kernel
theorem dX1_endOf_53 : decode cX1_endOf 53 = .ok (.iload_n 2, 1) := by decide +kernel
theorem dX1_endOf_54 : decode cX1_endOf 54 = .ok (.aload_n 0, 1) := by decide +kernel
theorem dX1_endOf_55 : decode cX1_endOf 55 = .ok (.getfield 20, 3) := by decide +kernel
theorem dX1_endOf_58 : decode cX1_endOf 58 = .ok (.iload_n 3, 1) := by decide +kernel
theorem dX1_endOf_59 : decode cX1_endOf 59 = .ok (.iaload, 1) := by decide +kernel
theorem dX1_endOf_60 : decode cX1_endOf 60 = .ok (.iadd, 1) := by decide +kernel
theorem dX1_endOf_61 : decode cX1_endOf 61 = .ok (.istore_n 2, 1) := by decide +kernel
theorem dX1_endOf_62 : decode cX1_endOf 62 = .ok (.iinc 3 1, 3) := by decide +kernel
theorem dX1_endOf_65 : decode cX1_endOf 65 = .ok (.goto (-37), 3) := by decide +kernel
theorem dX1_endOf_68 : decode cX1_endOf 68 = .ok (.iload_n 2, 1) := by decide +kernel
theorem dX1_endOf_69 : decode cX1_endOf 69 = .ok (.ireturn, 1) := by decide +kernel
theorem dX1_room_0 : decode cX1_room 0 = .ok (.iconst 0, 1) := by decide +kernel
theorem dX1_room_1 : decode cX1_room 1 = .ok (.istore_n 1, 1) := by decide +kernel
theorem dX1_room_2 : decode cX1_room 2 = .ok (.bipush 60, 2) := by decide +kernel
theorem dX1_room_4 : decode cX1_room 4 = .ok (.istore_n 2, 1) := by decide +kernel
theorem dX1_room_5 : decode cX1_room 5 = .ok (.iconst 0, 1) := by decide +kernel
theorem dX1_room_6 : decode cX1_room 6 = .ok (.istore_n 3, 1) := by decide +kernel
theorem dX1_room_7 : decode cX1_room 7 = .ok (.iload_n 3, 1) := by decide +kernel
theorem dX1_room_8 : decode cX1_room 8 = .ok (.bipush 7, 2) := by decide +kernel
theorem dX1_room_10 : decode cX1_room 10 = .ok (.if_icmp .ge 43, 3) := by decide +kernel
theorem dX1_room_13 : decode cX1_room 13 = .ok (.iload_n 1, 1) := by decide +kernel
theorem dX1_room_14 : decode cX1_room 14 = .ok (.iload_n 2, 1) := by decide +kernel
theorem dX1_room_15 : decode cX1_room 15 = .ok (.if_icmp .ge 38, 3) := by decide +kernel
theorem dX1_room_18 : decode cX1_room 18 = .ok (.iload_n 1, 1) := by decide +kernel
theorem dX1_room_19 : decode cX1_room 19 = .ok (.iload_n 2, 1) := by decide +kernel
theorem dX1_room_20 : decode cX1_room 20 = .ok (.iadd, 1) := by decide +kernel
theorem dX1_room_21 : decode cX1_room 21 = .ok (.iconst 1, 1) := by decide +kernel
theorem dX1_room_22 : decode cX1_room 22 = .ok (.iadd, 1) := by decide +kernel
theorem dX1_room_23 : decode cX1_room 23 = .ok (.iconst 2, 1) := by decide +kernel
theorem dX1_room_24 : decode cX1_room 24 = .ok (.idiv, 1) := by decide +kernel
theorem dX1_room_25 : decode cX1_room 25 = .ok (.istore 4, 2) := by decide +kernel
theorem dX1_room_27 : decode cX1_room 27 = .ok (.aload_n 0, 1) := by decide +kernel
theorem dX1_room_28 : decode cX1_room 28 = .ok (.iload 4, 2) := by decide +kernel
theorem dX1_room_30 : decode cX1_room 30 = .ok (.invokevirtual 45, 3) := by decide +kernel
theorem dX1_room_33 : decode cX1_room 33 = .ok (.ifCond .eq 9, 3) := by decide +kernel
theorem dX1_room_36 : decode cX1_room 36 = .ok (.iload 4, 2) := by decide +kernel
theorem dX1_room_38 : decode cX1_room 38 = .ok (.istore_n 1, 1) := by decide +kernel
theorem dX1_room_39 : decode cX1_room 39 = .ok (.goto 8, 3) := by decide +kernel
theorem dX1_room_42 : decode cX1_room 42 = .ok (.iload 4, 2) := by decide +kernel
theorem dX1_room_44 : decode cX1_room 44 = .ok (.iconst 1, 1) := by decide +kernel
theorem dX1_room_45 : decode cX1_room 45 = .ok (.isub, 1) := by decide +kernel
theorem dX1_room_46 : decode cX1_room 46 = .ok (.istore_n 2, 1) := by decide +kernel
theorem dX1_room_47 : decode cX1_room 47 = .ok (.iinc 3 1, 3) := by decide +kernel
theorem dX1_room_50 : decode cX1_room 50 = .ok (.goto (-43), 3) := by decide +kernel
theorem dX1_room_53 : decode cX1_room 53 = .ok (.iload_n 1, 1) := by decide +kernel
theorem dX1_room_54 : decode cX1_room 54 = .ok (.ireturn, 1) := by decide +kernel
theorem dX1_jobs_0 : decode cX1_jobs 0 = .ok (.iconst 0, 1) := by decide +kernel
theorem dX1_jobs_1 : decode cX1_jobs 1 = .ok (.istore_n 1, 1) := by decide +kernel
theorem dX1_jobs_2 : decode cX1_jobs 2 = .ok (.iconst 0, 1) := by decide +kernel
theorem dX1_jobs_3 : decode cX1_jobs 3 = .ok (.istore_n 2, 1) := by decide +kernel
theorem dX1_jobs_4 : decode cX1_jobs 4 = .ok (.iload_n 2, 1) := by decide +kernel
theorem dX1_jobs_5 : decode cX1_jobs 5 = .ok (.bipush 8, 2) := by decide +kernel
theorem dX1_jobs_7 : decode cX1_jobs 7 = .ok (.if_icmp .ge 21, 3) := by decide +kernel
theorem dX1_jobs_10 : decode cX1_jobs 10 = .ok (.aload_n 0, 1) := by decide +kernel
theorem dX1_jobs_11 : decode cX1_jobs 11 = .ok (.getfield 20, 3) := by decide +kernel
theorem dX1_jobs_14 : decode cX1_jobs 14 = .ok (.iload_n 2, 1) := by decide +kernel
theorem dX1_jobs_15 : decode cX1_jobs 15 = .ok (.iaload, 1) := by decide +kernel
theorem dX1_jobs_16 : decode cX1_jobs 16 = .ok (.ifCond .le 6, 3) := by decide +kernel
theorem dX1_jobs_19 : decode cX1_jobs 19 = .ok (.iinc 1 1, 3) := by decide +kernel
theorem dX1_jobs_22 : decode cX1_jobs 22 = .ok (.iinc 2 1, 3) := by decide +kernel
theorem dX1_jobs_25 : decode cX1_jobs 25 = .ok (.goto (-21), 3) := by decide +kernel
theorem dX1_jobs_28 : decode cX1_jobs 28 = .ok (.iload_n 1, 1) := by decide +kernel
theorem dX1_jobs_29 : decode cX1_jobs 29 = .ok (.ireturn, 1) := by decide +kernel
theorem dX2_init_0 : decode cX2_init 0 = .ok (.aload_n 0, 1) := by decide +kernel
theorem dX2_init_1 : decode cX2_init 1 = .ok (.invokespecial 1, 3) := by decide +kernel
theorem dX2_init_4 : decode cX2_init 4 = .ok (.aload_n 0, 1) := by decide +kernel
theorem dX2_init_5 : decode cX2_init 5 = .ok (.iconst 3, 1) := by decide +kernel
theorem dX2_init_6 : decode cX2_init 6 = .ok (.newarray .int, 2) := by decide +kernel
theorem dX2_init_8 : decode cX2_init 8 = .ok (.putfield 7, 3) := by decide +kernel
theorem dX2_init_11 : decode cX2_init 11 = .ok (.aload_n 0, 1) := by decide +kernel
theorem dX2_init_12 : decode cX2_init 12 = .ok (.bipush 8, 2) := by decide +kernel
theorem dX2_init_14 : decode cX2_init 14 = .ok (.newarray .boolean, 2) := by decide +kernel
theorem dX2_init_16 : decode cX2_init 16 = .ok (.putfield 13, 3) := by decide +kernel
theorem dX2_init_19 : decode cX2_init 19 = .ok (.aload_n 0, 1) := by decide +kernel
theorem dX2_init_20 : decode cX2_init 20 = .ok (.bipush 8, 2) := by decide +kernel
theorem dX2_init_22 : decode cX2_init 22 = .ok (.newarray .int, 2) := by decide +kernel
theorem dX2_init_24 : decode cX2_init 24 = .ok (.putfield 17, 3) := by decide +kernel
theorem dX2_init_27 : decode cX2_init 27 = .ok (.aload_n 0, 1) := by decide +kernel
theorem dX2_init_28 : decode cX2_init 28 = .ok (.bipush 8, 2) := by decide +kernel
theorem dX2_init_30 : decode cX2_init 30 = .ok (.newarray .int, 2) := by decide +kernel
theorem dX2_init_32 : decode cX2_init 32 = .ok (.putfield 20, 3) := by decide +kernel
theorem dX2_init_35 : decode cX2_init 35 = .ok (.aload_n 0, 1) := by decide +kernel
theorem dX2_init_36 : decode cX2_init 36 = .ok (.iconst 3, 1) := by decide +kernel
theorem dX2_init_37 : decode cX2_init 37 = .ok (.newarray .int, 2) := by decide +kernel
theorem dX2_init_39 : decode cX2_init 39 = .ok (.putfield 23, 3) := by decide +kernel
theorem dX2_init_42 : decode cX2_init 42 = .ok (.aload_n 0, 1) := by decide +kernel
theorem dX2_init_43 : decode cX2_init 43 = .ok (.iload_n 1, 1) := by decide +kernel
theorem dX2_init_44 : decode cX2_init 44 = .ok (.iconst 1, 1) := by decide +kernel
theorem dX2_init_45 : decode cX2_init 45 = .ok (.if_icmp .ge 7, 3) := by decide +kernel
theorem dX2_init_48 : decode cX2_init 48 = .ok (.iconst 1, 1) := by decide +kernel
theorem dX2_init_49 : decode cX2_init 49 = .ok (.goto 13, 3) := by decide +kernel
theorem dX2_init_52 : decode cX2_init 52 = .ok (.iload_n 1, 1) := by decide +kernel
theorem dX2_init_53 : decode cX2_init 53 = .ok (.iconst 3, 1) := by decide +kernel
theorem dX2_init_54 : decode cX2_init 54 = .ok (.if_icmp .le 7, 3) := by decide +kernel
theorem dX2_init_57 : decode cX2_init 57 = .ok (.iconst 3, 1) := by decide +kernel
theorem dX2_init_58 : decode cX2_init 58 = .ok (.goto 4, 3) := by decide +kernel
theorem dX2_init_61 : decode cX2_init 61 = .ok (.iload_n 1, 1) := by decide +kernel
theorem dX2_init_62 : decode cX2_init 62 = .ok (.putfield 26, 3) := by decide +kernel
theorem dX2_init_65 : decode cX2_init 65 = .ok (.aload_n 0, 1) := by decide +kernel
theorem dX2_init_66 : decode cX2_init 66 = .ok (.iload_n 2, 1) := by decide +kernel
theorem dX2_init_67 : decode cX2_init 67 = .ok (.ifCond .ge 7, 3) := by decide +kernel
theorem dX2_init_70 : decode cX2_init 70 = .ok (.iconst 0, 1) := by decide +kernel
theorem dX2_init_71 : decode cX2_init 71 = .ok (.goto 17, 3) := by decide +kernel
theorem dX2_init_74 : decode cX2_init 74 = .ok (.iload_n 2, 1) := by decide +kernel
theorem dX2_init_75 : decode cX2_init 75 = .ok (.sipush 300, 3) := by decide +kernel
theorem dX2_init_78 : decode cX2_init 78 = .ok (.if_icmp .le 9, 3) := by decide +kernel
theorem dX2_init_81 : decode cX2_init 81 = .ok (.sipush 300, 3) := by decide +kernel
theorem dX2_init_84 : decode cX2_init 84 = .ok (.goto 4, 3) := by decide +kernel
theorem dX2_init_87 : decode cX2_init 87 = .ok (.iload_n 2, 1) := by decide +kernel
theorem dX2_init_88 : decode cX2_init 88 = .ok (.putfield 30, 3) := by decide +kernel
theorem dX2_init_91 : decode cX2_init 91 = .ok (.return_, 1) := by decide +kernel
theorem dX2_offer_0 : decode cX2_offer 0 = .ok (.iload_n 1, 1) := by decide +kernel
theorem dX2_offer_1 : decode cX2_offer 1 = .ok (.iconst 1, 1) := by decide +kernel
theorem dX2_offer_2 : decode cX2_offer 2 = .ok (.if_icmp .lt 9, 3) := by decide +kernel
theorem dX2_offer_5 : decode cX2_offer 5 = .ok (.iload_n 1, 1) := by decide +kernel
theorem dX2_offer_6 : decode cX2_offer 6 = .ok (.bipush 60, 2) := by decide +kernel
theorem dX2_offer_8 : decode cX2_offer 8 = .ok (.if_icmp .le 6, 3) := by decide +kernel
theorem dX2_offer_11 : decode cX2_offer 11 = .ok (.bipush (-2), 2) := by decide +kernel
theorem dX2_offer_13 : decode cX2_offer 13 = .ok (.ireturn, 1) := by decide +kernel
theorem dX2_offer_14 : decode cX2_offer 14 = .ok (.aload_n 0, 1) := by decide +kernel
theorem dX2_offer_15 : decode cX2_offer 15 = .ok (.invokevirtual 33, 3) := by decide +kernel
theorem dX2_offer_18 : decode cX2_offer 18 = .ok (.bipush 8, 2) := by decide +kernel
theorem dX2_offer_20 : decode cX2_offer 20 = .ok (.if_icmp .ne 6, 3) := by decide +kernel
theorem dX2_offer_23 : decode cX2_offer 23 = .ok (.bipush (-3), 2) := by decide +kernel
theorem dX2_offer_25 : decode cX2_offer 25 = .ok (.ireturn, 1) := by decide +kernel
theorem dX2_offer_26 : decode cX2_offer 26 = .ok (.iload_n 1, 1) := by decide +kernel
theorem dX2_offer_27 : decode cX2_offer 27 = .ok (.aload_n 0, 1) := by decide +kernel
theorem dX2_offer_28 : decode cX2_offer 28 = .ok (.invokevirtual 56, 3) := by decide +kernel
theorem dX2_offer_31 : decode cX2_offer 31 = .ok (.if_icmp .le 5, 3) := by decide +kernel
theorem dX2_offer_34 : decode cX2_offer 34 = .ok (.iconst (-1), 1) := by decide +kernel
theorem dX2_offer_35 : decode cX2_offer 35 = .ok (.ireturn, 1) := by decide +kernel
theorem dX2_offer_36 : decode cX2_offer 36 = .ok (.iconst 0, 1) := by decide +kernel
theorem dX2_offer_37 : decode cX2_offer 37 = .ok (.istore_n 2, 1) := by decide +kernel
theorem dX2_offer_38 : decode cX2_offer 38 = .ok (.iload_n 2, 1) := by decide +kernel
theorem dX2_offer_39 : decode cX2_offer 39 = .ok (.bipush 8, 2) := by decide +kernel
theorem dX2_offer_41 : decode cX2_offer 41 = .ok (.if_icmp .ge 34, 3) := by decide +kernel
theorem dX2_offer_44 : decode cX2_offer 44 = .ok (.aload_n 0, 1) := by decide +kernel
theorem dX2_offer_45 : decode cX2_offer 45 = .ok (.getfield 13, 3) := by decide +kernel
theorem dX2_offer_48 : decode cX2_offer 48 = .ok (.iload_n 2, 1) := by decide +kernel
theorem dX2_offer_49 : decode cX2_offer 49 = .ok (.baload, 1) := by decide +kernel
theorem dX2_offer_50 : decode cX2_offer 50 = .ok (.ifCond .ne 19, 3) := by decide +kernel
theorem dX2_offer_53 : decode cX2_offer 53 = .ok (.aload_n 0, 1) := by decide +kernel
theorem dX2_offer_54 : decode cX2_offer 54 = .ok (.getfield 13, 3) := by decide +kernel
theorem dX2_offer_57 : decode cX2_offer 57 = .ok (.iload_n 2, 1) := by decide +kernel
theorem dX2_offer_58 : decode cX2_offer 58 = .ok (.iconst 1, 1) := by decide +kernel
theorem dX2_offer_59 : decode cX2_offer 59 = .ok (.bastore, 1) := by decide +kernel
theorem dX2_offer_60 : decode cX2_offer 60 = .ok (.aload_n 0, 1) := by decide +kernel
theorem dX2_offer_61 : decode cX2_offer 61 = .ok (.getfield 17, 3) := by decide +kernel
theorem dX2_offer_64 : decode cX2_offer 64 = .ok (.iload_n 2, 1) := by decide +kernel
theorem dX2_offer_65 : decode cX2_offer 65 = .ok (.iload_n 1, 1) := by decide +kernel
theorem dX2_offer_66 : decode cX2_offer 66 = .ok (.iastore, 1) := by decide +kernel
theorem dX2_offer_67 : decode cX2_offer 67 = .ok (.iload_n 2, 1) := by decide +kernel
theorem dX2_offer_68 : decode cX2_offer 68 = .ok (.ireturn, 1) := by decide +kernel
theorem dX2_offer_69 : decode cX2_offer 69 = .ok (.iinc 2 1, 3) := by decide +kernel
theorem dX2_offer_72 : decode cX2_offer 72 = .ok (.goto (-34), 3) := by decide +kernel
theorem dX2_offer_75 : decode cX2_offer 75 = .ok (.bipush (-3), 2) := by decide +kernel
theorem dX2_offer_77 : decode cX2_offer 77 = .ok (.ireturn, 1) := by decide +kernel
theorem dX2_jobs_0 : decode cX2_jobs 0 = .ok (.iconst 0, 1) := by decide +kernel
theorem dX2_jobs_1 : decode cX2_jobs 1 = .ok (.istore_n 1, 1) := by decide +kernel
theorem dX2_jobs_2 : decode cX2_jobs 2 = .ok (.iconst 0, 1) := by decide +kernel
theorem dX2_jobs_3 : decode cX2_jobs 3 = .ok (.istore_n 2, 1) := by decide +kernel
theorem dX2_jobs_4 : decode cX2_jobs 4 = .ok (.iload_n 2, 1) := by decide +kernel
theorem dX2_jobs_5 : decode cX2_jobs 5 = .ok (.bipush 8, 2) := by decide +kernel
theorem dX2_jobs_7 : decode cX2_jobs 7 = .ok (.if_icmp .ge 21, 3) := by decide +kernel
theorem dX2_jobs_10 : decode cX2_jobs 10 = .ok (.aload_n 0, 1) := by decide +kernel
theorem dX2_jobs_11 : decode cX2_jobs 11 = .ok (.getfield 13, 3) := by decide +kernel
theorem dX2_jobs_14 : decode cX2_jobs 14 = .ok (.iload_n 2, 1) := by decide +kernel
theorem dX2_jobs_15 : decode cX2_jobs 15 = .ok (.baload, 1) := by decide +kernel
theorem dX2_jobs_16 : decode cX2_jobs 16 = .ok (.ifCond .eq 6, 3) := by decide +kernel
theorem dX2_jobs_19 : decode cX2_jobs 19 = .ok (.iinc 1 1, 3) := by decide +kernel
theorem dX2_jobs_22 : decode cX2_jobs 22 = .ok (.iinc 2 1, 3) := by decide +kernel
theorem dX2_jobs_25 : decode cX2_jobs 25 = .ok (.goto (-21), 3) := by decide +kernel
theorem dX2_jobs_28 : decode cX2_jobs 28 = .ok (.iload_n 1, 1) := by decide +kernel
theorem dX2_jobs_29 : decode cX2_jobs 29 = .ok (.ireturn, 1) := by decide +kernel
theorem dX2_most_0 : decode cX2_most 0 = .ok (.iconst 0, 1) := by decide +kernel
theorem dX2_most_1 : decode cX2_most 1 = .ok (.istore_n 1, 1) := by decide +kernel
theorem dX2_most_2 : decode cX2_most 2 = .ok (.aload_n 0, 1) := by decide +kernel
theorem dX2_most_3 : decode cX2_most 3 = .ok (.invokevirtual 42, 3) := by decide +kernel
theorem dX2_most_6 : decode cX2_most 6 = .ok (.istore_n 2, 1) := by decide +kernel
theorem dX2_most_7 : decode cX2_most 7 = .ok (.iconst 0, 1) := by decide +kernel
theorem dX2_most_8 : decode cX2_most 8 = .ok (.istore_n 3, 1) := by decide +kernel
theorem dX2_most_9 : decode cX2_most 9 = .ok (.iload_n 3, 1) := by decide +kernel
theorem dX2_most_10 : decode cX2_most 10 = .ok (.iload_n 2, 1) := by decide +kernel
theorem dX2_most_11 : decode cX2_most 11 = .ok (.if_icmp .ge 49, 3) := by decide +kernel
theorem dX2_most_14 : decode cX2_most 14 = .ok (.aload_n 0, 1) := by decide +kernel
theorem dX2_most_15 : decode cX2_most 15 = .ok (.iload_n 3, 1) := by decide +kernel
theorem dX2_most_16 : decode cX2_most 16 = .ok (.invokevirtual 45, 3) := by decide +kernel
theorem dX2_most_19 : decode cX2_most 19 = .ok (.iconst 0, 1) := by decide +kernel
theorem dX2_most_20 : decode cX2_most 20 = .ok (.istore 4, 2) := by decide +kernel
theorem dX2_most_22 : decode cX2_most 22 = .ok (.iload 4, 2) := by decide +kernel
theorem dX2_most_24 : decode cX2_most 24 = .ok (.aload_n 0, 1) := by decide +kernel
theorem dX2_most_25 : decode cX2_most 25 = .ok (.getfield 26, 3) := by decide +kernel
theorem dX2_most_28 : decode cX2_most 28 = .ok (.if_icmp .ge 26, 3) := by decide +kernel
theorem dX2_most_31 : decode cX2_most 31 = .ok (.aload_n 0, 1) := by decide +kernel
theorem dX2_most_32 : decode cX2_most 32 = .ok (.iload 4, 2) := by decide +kernel
theorem dX2_most_34 : decode cX2_most 34 = .ok (.invokevirtual 52, 3) := by decide +kernel
theorem dX2_most_37 : decode cX2_most 37 = .ok (.istore 5, 2) := by decide +kernel
theorem dX2_most_39 : decode cX2_most 39 = .ok (.iload 5, 2) := by decide +kernel
theorem dX2_most_41 : decode cX2_most 41 = .ok (.iload_n 1, 1) := by decide +kernel
theorem dX2_most_42 : decode cX2_most 42 = .ok (.if_icmp .le 6, 3) := by decide +kernel
theorem dX2_most_45 : decode cX2_most 45 = .ok (.iload 5, 2) := by decide +kernel
theorem dX2_most_47 : decode cX2_most 47 = .ok (.istore_n 1, 1) := by decide +kernel
theorem dX2_most_48 : decode cX2_most 48 = .ok (.iinc 4 1, 3) := by decide +kernel
theorem dX2_most_51 : decode cX2_most 51 = .ok (.goto (-29), 3) := by decide +kernel
theorem dX2_most_54 : decode cX2_most 54 = .ok (.iinc 3 1, 3) := by decide +kernel
theorem dX2_most_57 : decode cX2_most 57 = .ok (.goto (-48), 3) := by decide +kernel
theorem dX2_most_60 : decode cX2_most 60 = .ok (.iload_n 1, 1) := by decide +kernel
theorem dX2_most_61 : decode cX2_most 61 = .ok (.bipush 60, 2) := by decide +kernel
theorem dX2_most_63 : decode cX2_most 63 = .ok (.if_icmp .le 8, 3) := by decide +kernel
theorem dX2_most_66 : decode cX2_most 66 = .ok (.bipush 60, 2) := by decide +kernel
theorem dX2_most_68 : decode cX2_most 68 = .ok (.goto 4, 3) := by decide +kernel
theorem dX2_most_71 : decode cX2_most 71 = .ok (.iload_n 1, 1) := by decide +kernel
theorem dX2_most_72 : decode cX2_most 72 = .ok (.ireturn, 1) := by decide +kernel
theorem dX2_plans_0 : decode cX2_plans 0 = .ok (.aload_n 0, 1) := by decide +kernel
theorem dX2_plans_1 : decode cX2_plans 1 = .ok (.invokevirtual 33, 3) := by decide +kernel
theorem dX2_plans_4 : decode cX2_plans 4 = .ok (.istore_n 1, 1) := by decide +kernel
theorem dX2_plans_5 : decode cX2_plans 5 = .ok (.aload_n 0, 1) := by decide +kernel
theorem dX2_plans_6 : decode cX2_plans 6 = .ok (.getfield 26, 3) := by decide +kernel
theorem dX2_plans_9 : decode cX2_plans 9 = .ok (.iload_n 1, 1) := by decide +kernel
theorem dX2_plans_10 : decode cX2_plans 10 = .ok (.invokestatic 37, 3) := by decide +kernel
theorem dX2_plans_13 : decode cX2_plans 13 = .ok (.ireturn, 1) := by decide +kernel
theorem dX2_power_0 : decode cX2_power 0 = .ok (.iconst 1, 1) := by decide +kernel
theorem dX2_power_1 : decode cX2_power 1 = .ok (.istore_n 2, 1) := by decide +kernel
theorem dX2_power_2 : decode cX2_power 2 = .ok (.iconst 0, 1) := by decide +kernel
theorem dX2_power_3 : decode cX2_power 3 = .ok (.istore_n 3, 1) := by decide +kernel
theorem dX2_power_4 : decode cX2_power 4 = .ok (.iload_n 3, 1) := by decide +kernel
theorem dX2_power_5 : decode cX2_power 5 = .ok (.iload_n 1, 1) := by decide +kernel
theorem dX2_power_6 : decode cX2_power 6 = .ok (.if_icmp .ge 13, 3) := by decide +kernel
theorem dX2_power_9 : decode cX2_power 9 = .ok (.iload_n 2, 1) := by decide +kernel
theorem dX2_power_10 : decode cX2_power 10 = .ok (.iload_n 0, 1) := by decide +kernel
theorem dX2_power_11 : decode cX2_power 11 = .ok (.imul, 1) := by decide +kernel
theorem dX2_power_12 : decode cX2_power 12 = .ok (.istore_n 2, 1) := by decide +kernel
theorem dX2_power_13 : decode cX2_power 13 = .ok (.iinc 3 1, 3) := by decide +kernel
theorem dX2_power_16 : decode cX2_power 16 = .ok (.goto (-12), 3) := by decide +kernel
theorem dX2_power_19 : decode cX2_power 19 = .ok (.iload_n 2, 1) := by decide +kernel
theorem dX2_power_20 : decode cX2_power 20 = .ok (.ireturn, 1) := by decide +kernel
theorem dX2_lay_0 : decode cX2_lay 0 = .ok (.iload_n 1, 1) := by decide +kernel
theorem dX2_lay_1 : decode cX2_lay 1 = .ok (.istore_n 2, 1) := by decide +kernel
theorem dX2_lay_2 : decode cX2_lay 2 = .ok (.iconst 0, 1) := by decide +kernel
theorem dX2_lay_3 : decode cX2_lay 3 = .ok (.istore_n 3, 1) := by decide +kernel
theorem dX2_lay_4 : decode cX2_lay 4 = .ok (.iload_n 3, 1) := by decide +kernel
theorem dX2_lay_5 : decode cX2_lay 5 = .ok (.aload_n 0, 1) := by decide +kernel
theorem dX2_lay_6 : decode cX2_lay 6 = .ok (.getfield 26, 3) := by decide +kernel
theorem dX2_lay_9 : decode cX2_lay 9 = .ok (.if_icmp .ge 21, 3) := by decide +kernel
theorem dX2_lay_12 : decode cX2_lay 12 = .ok (.aload_n 0, 1) := by decide +kernel
theorem dX2_lay_13 : decode cX2_lay 13 = .ok (.getfield 23, 3) := by decide +kernel
theorem dX2_lay_16 : decode cX2_lay 16 = .ok (.iload_n 3, 1) := by decide +kernel
theorem dX2_lay_17 : decode cX2_lay 17 = .ok (.aload_n 0, 1) := by decide +kernel
theorem dX2_lay_18 : decode cX2_lay 18 = .ok (.getfield 7, 3) := by decide +kernel
theorem dX2_lay_21 : decode cX2_lay 21 = .ok (.iload_n 3, 1) := by decide +kernel
theorem dX2_lay_22 : decode cX2_lay 22 = .ok (.iaload, 1) := by decide +kernel
theorem dX2_lay_23 : decode cX2_lay 23 = .ok (.iastore, 1) := by decide +kernel
theorem dX2_lay_24 : decode cX2_lay 24 = .ok (.iinc 3 1, 3) := by decide +kernel
theorem dX2_lay_27 : decode cX2_lay 27 = .ok (.goto (-23), 3) := by decide +kernel
theorem dX2_lay_30 : decode cX2_lay 30 = .ok (.bipush 7, 2) := by decide +kernel
theorem dX2_lay_32 : decode cX2_lay 32 = .ok (.istore_n 3, 1) := by decide +kernel
theorem dX2_lay_33 : decode cX2_lay 33 = .ok (.iload_n 3, 1) := by decide +kernel
theorem dX2_lay_34 : decode cX2_lay 34 = .ok (.ifCond .lt 64, 3) := by decide +kernel
theorem dX2_lay_37 : decode cX2_lay 37 = .ok (.aload_n 0, 1) := by decide +kernel
theorem dX2_lay_38 : decode cX2_lay 38 = .ok (.getfield 13, 3) := by decide +kernel
theorem dX2_lay_41 : decode cX2_lay 41 = .ok (.iload_n 3, 1) := by decide +kernel
theorem dX2_lay_42 : decode cX2_lay 42 = .ok (.baload, 1) := by decide +kernel
theorem dX2_lay_43 : decode cX2_lay 43 = .ok (.ifCond .eq 49, 3) := by decide +kernel
theorem dX2_lay_46 : decode cX2_lay 46 = .ok (.aload_n 0, 1) := by decide +kernel
theorem dX2_lay_47 : decode cX2_lay 47 = .ok (.getfield 26, 3) := by decide +kernel
theorem dX2_lay_50 : decode cX2_lay 50 = .ok (.ifCond .le 42, 3) := by decide +kernel
theorem dX2_lay_53 : decode cX2_lay 53 = .ok (.aload_n 0, 1) := by decide +kernel
theorem dX2_lay_54 : decode cX2_lay 54 = .ok (.getfield 20, 3) := by decide +kernel
theorem dX2_lay_57 : decode cX2_lay 57 = .ok (.iload_n 3, 1) := by decide +kernel
theorem dX2_lay_58 : decode cX2_lay 58 = .ok (.iload_n 2, 1) := by decide +kernel
theorem dX2_lay_59 : decode cX2_lay 59 = .ok (.aload_n 0, 1) := by decide +kernel
theorem dX2_lay_60 : decode cX2_lay 60 = .ok (.getfield 26, 3) := by decide +kernel
theorem dX2_lay_63 : decode cX2_lay 63 = .ok (.irem, 1) := by decide +kernel
theorem dX2_lay_64 : decode cX2_lay 64 = .ok (.iastore, 1) := by decide +kernel
theorem dX2_lay_65 : decode cX2_lay 65 = .ok (.iload_n 2, 1) := by decide +kernel
theorem dX2_lay_66 : decode cX2_lay 66 = .ok (.aload_n 0, 1) := by decide +kernel
theorem dX2_lay_67 : decode cX2_lay 67 = .ok (.getfield 26, 3) := by decide +kernel
theorem dX2_lay_70 : decode cX2_lay 70 = .ok (.idiv, 1) := by decide +kernel
theorem dX2_lay_71 : decode cX2_lay 71 = .ok (.istore_n 2, 1) := by decide +kernel
theorem dX2_lay_72 : decode cX2_lay 72 = .ok (.aload_n 0, 1) := by decide +kernel
theorem dX2_lay_73 : decode cX2_lay 73 = .ok (.getfield 23, 3) := by decide +kernel
theorem dX2_lay_76 : decode cX2_lay 76 = .ok (.aload_n 0, 1) := by decide +kernel
theorem dX2_lay_77 : decode cX2_lay 77 = .ok (.getfield 20, 3) := by decide +kernel
theorem dX2_lay_80 : decode cX2_lay 80 = .ok (.iload_n 3, 1) := by decide +kernel
theorem dX2_lay_81 : decode cX2_lay 81 = .ok (.iaload, 1) := by decide +kernel
theorem dX2_lay_82 : decode cX2_lay 82 = .ok (.dup2, 1) := by decide +kernel
theorem dX2_lay_83 : decode cX2_lay 83 = .ok (.iaload, 1) := by decide +kernel
theorem dX2_lay_84 : decode cX2_lay 84 = .ok (.aload_n 0, 1) := by decide +kernel
theorem dX2_lay_85 : decode cX2_lay 85 = .ok (.getfield 17, 3) := by decide +kernel
theorem dX2_lay_88 : decode cX2_lay 88 = .ok (.iload_n 3, 1) := by decide +kernel
theorem dX2_lay_89 : decode cX2_lay 89 = .ok (.iaload, 1) := by decide +kernel
theorem dX2_lay_90 : decode cX2_lay 90 = .ok (.iadd, 1) := by decide +kernel
theorem dX2_lay_91 : decode cX2_lay 91 = .ok (.iastore, 1) := by decide +kernel
theorem dX2_lay_92 : decode cX2_lay 92 = .ok (.iinc 3 (-1), 3) := by decide +kernel
theorem dX2_lay_95 : decode cX2_lay 95 = .ok (.goto (-62), 3) := by decide +kernel
theorem dX2_lay_98 : decode cX2_lay 98 = .ok (.return_, 1) := by decide +kernel
theorem dX2_left_0 : decode cX2_left 0 = .ok (.iconst 0, 1) := by decide +kernel
theorem dX2_left_1 : decode cX2_left 1 = .ok (.istore_n 2, 1) := by decide +kernel
theorem dX2_left_2 : decode cX2_left 2 = .ok (.iload_n 2, 1) := by decide +kernel
theorem dX2_left_3 : decode cX2_left 3 = .ok (.aload_n 0, 1) := by decide +kernel
theorem dX2_left_4 : decode cX2_left 4 = .ok (.getfield 26, 3) := by decide +kernel
theorem dX2_left_7 : decode cX2_left 7 = .ok (.if_icmp .ge 29, 3) := by decide +kernel
theorem dX2_left_10 : decode cX2_left 10 = .ok (.iload_n 2, 1) := by decide +kernel
theorem dX2_left_11 : decode cX2_left 11 = .ok (.iload_n 1, 1) := by decide +kernel
theorem dX2_left_12 : decode cX2_left 12 = .ok (.if_icmp .eq 18, 3) := by decide +kernel
theorem dX2_left_15 : decode cX2_left 15 = .ok (.aload_n 0, 1) := by decide +kernel
theorem dX2_left_16 : decode cX2_left 16 = .ok (.getfield 23, 3) := by decide +kernel
theorem dX2_left_19 : decode cX2_left 19 = .ok (.iload_n 2, 1) := by decide +kernel
theorem dX2_left_20 : decode cX2_left 20 = .ok (.iaload, 1) := by decide +kernel
theorem dX2_left_21 : decode cX2_left 21 = .ok (.aload_n 0, 1) := by decide +kernel
theorem dX2_left_22 : decode cX2_left 22 = .ok (.getfield 30, 3) := by decide +kernel
theorem dX2_left_25 : decode cX2_left 25 = .ok (.if_icmp .le 5, 3) := by decide +kernel
theorem dX2_left_28 : decode cX2_left 28 = .ok (.iconst (-1), 1) := by decide +kernel
theorem dX2_left_29 : decode cX2_left 29 = .ok (.ireturn, 1) := by decide +kernel
theorem dX2_left_30 : decode cX2_left 30 = .ok (.iinc 2 1, 3) := by decide +kernel
theorem dX2_left_33 : decode cX2_left 33 = .ok (.goto (-31), 3) := by decide +kernel
theorem dX2_left_36 : decode cX2_left 36 = .ok (.aload_n 0, 1) := by decide +kernel
theorem dX2_left_37 : decode cX2_left 37 = .ok (.getfield 30, 3) := by decide +kernel
theorem dX2_left_40 : decode cX2_left 40 = .ok (.aload_n 0, 1) := by decide +kernel
theorem dX2_left_41 : decode cX2_left 41 = .ok (.getfield 23, 3) := by decide +kernel
theorem dX2_left_44 : decode cX2_left 44 = .ok (.iload_n 1, 1) := by decide +kernel
theorem dX2_left_45 : decode cX2_left 45 = .ok (.iaload, 1) := by decide +kernel
theorem dX2_left_46 : decode cX2_left 46 = .ok (.isub, 1) := by decide +kernel
theorem dX2_left_47 : decode cX2_left 47 = .ok (.ireturn, 1) := by decide +kernel
theorem dX2_withdraw_0 : decode cX2_withdraw 0 = .ok (.iload_n 1, 1) := by decide +kernel
theorem dX2_withdraw_1 : decode cX2_withdraw 1 = .ok (.ifCond .lt 18, 3) := by decide +kernel
theorem dX2_withdraw_4 : decode cX2_withdraw 4 = .ok (.iload_n 1, 1) := by decide +kernel
theorem dX2_withdraw_5 : decode cX2_withdraw 5 = .ok (.bipush 7, 2) := by decide +kernel
theorem dX2_withdraw_7 : decode cX2_withdraw 7 = .ok (.if_icmp .gt 12, 3) := by decide +kernel
theorem dX2_withdraw_10 : decode cX2_withdraw 10 = .ok (.aload_n 0, 1) := by decide +kernel
theorem dX2_withdraw_11 : decode cX2_withdraw 11 = .ok (.getfield 13, 3) := by decide +kernel
theorem dX2_withdraw_14 : decode cX2_withdraw 14 = .ok (.iload_n 1, 1) := by decide +kernel
theorem dX2_withdraw_15 : decode cX2_withdraw 15 = .ok (.baload, 1) := by decide +kernel
theorem dX2_withdraw_16 : decode cX2_withdraw 16 = .ok (.ifCond .ne 6, 3) := by decide +kernel
theorem dX2_withdraw_19 : decode cX2_withdraw 19 = .ok (.bipush (-2), 2) := by decide +kernel
theorem dX2_withdraw_21 : decode cX2_withdraw 21 = .ok (.ireturn, 1) := by decide +kernel
theorem dX2_withdraw_22 : decode cX2_withdraw 22 = .ok (.aload_n 0, 1) := by decide +kernel
theorem dX2_withdraw_23 : decode cX2_withdraw 23 = .ok (.getfield 13, 3) := by decide +kernel
theorem dX2_withdraw_26 : decode cX2_withdraw 26 = .ok (.iload_n 1, 1) := by decide +kernel
theorem dX2_withdraw_27 : decode cX2_withdraw 27 = .ok (.iconst 0, 1) := by decide +kernel
theorem dX2_withdraw_28 : decode cX2_withdraw 28 = .ok (.bastore, 1) := by decide +kernel
theorem dX2_withdraw_29 : decode cX2_withdraw 29 = .ok (.aload_n 0, 1) := by decide +kernel
theorem dX2_withdraw_30 : decode cX2_withdraw 30 = .ok (.getfield 17, 3) := by decide +kernel
theorem dX2_withdraw_33 : decode cX2_withdraw 33 = .ok (.iload_n 1, 1) := by decide +kernel
theorem dX2_withdraw_34 : decode cX2_withdraw 34 = .ok (.iaload, 1) := by decide +kernel
theorem dX2_withdraw_35 : decode cX2_withdraw 35 = .ok (.ireturn, 1) := by decide +kernel
theorem dX2_ready_0 : decode cX2_ready 0 = .ok (.iload_n 1, 1) := by decide +kernel
theorem dX2_ready_1 : decode cX2_ready 1 = .ok (.ifCond .lt 11, 3) := by decide +kernel
theorem dX2_ready_4 : decode cX2_ready 4 = .ok (.iload_n 1, 1) := by decide +kernel
theorem dX2_ready_5 : decode cX2_ready 5 = .ok (.aload_n 0, 1) := by decide +kernel
theorem dX2_ready_6 : decode cX2_ready 6 = .ok (.getfield 26, 3) := by decide +kernel
theorem dX2_ready_9 : decode cX2_ready 9 = .ok (.if_icmp .lt 6, 3) := by decide +kernel
theorem dX2_ready_12 : decode cX2_ready 12 = .ok (.bipush (-2), 2) := by decide +kernel
theorem dX2_ready_14 : decode cX2_ready 14 = .ok (.ireturn, 1) := by decide +kernel
theorem dX2_ready_15 : decode cX2_ready 15 = .ok (.aload_n 0, 1) := by decide +kernel
theorem dX2_ready_16 : decode cX2_ready 16 = .ok (.getfield 7, 3) := by decide +kernel
theorem dX2_ready_19 : decode cX2_ready 19 = .ok (.iload_n 1, 1) := by decide +kernel
theorem dX2_ready_20 : decode cX2_ready 20 = .ok (.iaload, 1) := by decide +kernel
theorem dX2_ready_21 : decode cX2_ready 21 = .ok (.istore_n 3, 1) := by decide +kernel
theorem dX2_ready_22 : decode cX2_ready 22 = .ok (.aload_n 0, 1) := by decide +kernel
theorem dX2_ready_23 : decode cX2_ready 23 = .ok (.getfield 7, 3) := by decide +kernel
theorem dX2_ready_26 : decode cX2_ready 26 = .ok (.iload_n 1, 1) := by decide +kernel
theorem dX2_ready_27 : decode cX2_ready 27 = .ok (.iload_n 2, 1) := by decide +kernel
theorem dX2_ready_28 : decode cX2_ready 28 = .ok (.ifCond .ge 7, 3) := by decide +kernel
theorem dX2_ready_31 : decode cX2_ready 31 = .ok (.iconst 0, 1) := by decide +kernel
theorem dX2_ready_32 : decode cX2_ready 32 = .ok (.goto 15, 3) := by decide +kernel
theorem dX2_ready_35 : decode cX2_ready 35 = .ok (.iload_n 2, 1) := by decide +kernel
theorem dX2_ready_36 : decode cX2_ready 36 = .ok (.bipush 60, 2) := by decide +kernel
theorem dX2_ready_38 : decode cX2_ready 38 = .ok (.if_icmp .le 8, 3) := by decide +kernel
theorem dX2_ready_41 : decode cX2_ready 41 = .ok (.bipush 60, 2) := by decide +kernel
theorem dX2_ready_43 : decode cX2_ready 43 = .ok (.goto 4, 3) := by decide +kernel
theorem dX2_ready_46 : decode cX2_ready 46 = .ok (.iload_n 2, 1) := by decide +kernel
theorem dX2_ready_47 : decode cX2_ready 47 = .ok (.iastore, 1) := by decide +kernel
theorem dX2_ready_48 : decode cX2_ready 48 = .ok (.iload_n 3, 1) := by decide +kernel
theorem dX2_ready_49 : decode cX2_ready 49 = .ok (.ireturn, 1) := by decide +kernel
theorem dX2_end_0 : decode cX2_end 0 = .ok (.aload_n 0, 1) := by decide +kernel
theorem dX2_end_1 : decode cX2_end 1 = .ok (.invokevirtual 59, 3) := by decide +kernel
theorem dX2_end_4 : decode cX2_end 4 = .ok (.ireturn, 1) := by decide +kernel
theorem dX2_choose_0 : decode cX2_choose 0 = .ok (.iconst 0, 1) := by decide +kernel
theorem dX2_choose_1 : decode cX2_choose 1 = .ok (.istore_n 1, 1) := by decide +kernel
theorem dX2_choose_2 : decode cX2_choose 2 = .ok (.ldc 41, 2) := by decide +kernel
theorem dX2_choose_4 : decode cX2_choose 4 = .ok (.istore_n 2, 1) := by decide +kernel
theorem dX2_choose_5 : decode cX2_choose 5 = .ok (.aload_n 0, 1) := by decide +kernel
theorem dX2_choose_6 : decode cX2_choose 6 = .ok (.invokevirtual 42, 3) := by decide +kernel
theorem dX2_choose_9 : decode cX2_choose 9 = .ok (.istore_n 3, 1) := by decide +kernel
theorem dX2_choose_10 : decode cX2_choose 10 = .ok (.iconst 0, 1) := by decide +kernel
theorem dX2_choose_11 : decode cX2_choose 11 = .ok (.istore 4, 2) := by decide +kernel
theorem dX2_choose_13 : decode cX2_choose 13 = .ok (.iload 4, 2) := by decide +kernel
theorem dX2_choose_15 : decode cX2_choose 15 = .ok (.iload_n 3, 1) := by decide +kernel
theorem dX2_choose_16 : decode cX2_choose 16 = .ok (.if_icmp .ge 33, 3) := by decide +kernel
theorem dX2_choose_19 : decode cX2_choose 19 = .ok (.aload_n 0, 1) := by decide +kernel
theorem dX2_choose_20 : decode cX2_choose 20 = .ok (.iload 4, 2) := by decide +kernel
theorem dX2_choose_22 : decode cX2_choose 22 = .ok (.invokevirtual 45, 3) := by decide +kernel
end
section
set_option maxRecDepth 100000
theorem dX2_choose_25 : decode cX2_choose 25 = .ok (.aload_n 0, 1) := by decide +kernel
theorem dX2_choose_26 : decode cX2_choose 26 = .ok (.invokevirtual 49, 3) := by decide +kernel
theorem dX2_choose_29 : decode cX2_choose 29 = .ok (.istore 5, 2) := by decide +kernel
theorem dX2_choose_31 : decode cX2_choose 31 = .ok (.iload 5, 2) := by decide +kernel
theorem dX2_choose_33 : decode cX2_choose 33 = .ok (.iload_n 2, 1) := by decide +kernel
theorem dX2_choose_34 : decode cX2_choose 34 = .ok (.if_icmp .ge 9, 3) := by decide +kernel
theorem dX2_choose_37 : decode cX2_choose 37 = .ok (.iload 4, 2) := by decide +kernel
theorem dX2_choose_39 : decode cX2_choose 39 = .ok (.istore_n 1, 1) := by decide +kernel
theorem dX2_choose_40 : decode cX2_choose 40 = .ok (.iload 5, 2) := by decide +kernel
theorem dX2_choose_42 : decode cX2_choose 42 = .ok (.istore_n 2, 1) := by decide +kernel
theorem dX2_choose_43 : decode cX2_choose 43 = .ok (.iinc 4 1, 3) := by decide +kernel
theorem dX2_choose_46 : decode cX2_choose 46 = .ok (.goto (-33), 3) := by decide +kernel
theorem dX2_choose_49 : decode cX2_choose 49 = .ok (.aload_n 0, 1) := by decide +kernel
theorem dX2_choose_50 : decode cX2_choose 50 = .ok (.iload_n 1, 1) := by decide +kernel
theorem dX2_choose_51 : decode cX2_choose 51 = .ok (.invokevirtual 45, 3) := by decide +kernel
theorem dX2_choose_54 : decode cX2_choose 54 = .ok (.iload_n 2, 1) := by decide +kernel
theorem dX2_choose_55 : decode cX2_choose 55 = .ok (.ireturn, 1) := by decide +kernel
theorem dX2_greatest_0 : decode cX2_greatest 0 = .ok (.iconst 0, 1) := by decide +kernel
theorem dX2_greatest_1 : decode cX2_greatest 1 = .ok (.istore_n 1, 1) := by decide +kernel
theorem dX2_greatest_2 : decode cX2_greatest 2 = .ok (.iconst 0, 1) := by decide +kernel
theorem dX2_greatest_3 : decode cX2_greatest 3 = .ok (.istore_n 2, 1) := by decide +kernel
theorem dX2_greatest_4 : decode cX2_greatest 4 = .ok (.iload_n 2, 1) := by decide +kernel
theorem dX2_greatest_5 : decode cX2_greatest 5 = .ok (.aload_n 0, 1) := by decide +kernel
theorem dX2_greatest_6 : decode cX2_greatest 6 = .ok (.getfield 26, 3) := by decide +kernel
theorem dX2_greatest_9 : decode cX2_greatest 9 = .ok (.if_icmp .ge 26, 3) := by decide +kernel
theorem dX2_greatest_12 : decode cX2_greatest 12 = .ok (.aload_n 0, 1) := by decide +kernel
theorem dX2_greatest_13 : decode cX2_greatest 13 = .ok (.getfield 23, 3) := by decide +kernel
theorem dX2_greatest_16 : decode cX2_greatest 16 = .ok (.iload_n 2, 1) := by decide +kernel
theorem dX2_greatest_17 : decode cX2_greatest 17 = .ok (.iaload, 1) := by decide +kernel
theorem dX2_greatest_18 : decode cX2_greatest 18 = .ok (.iload_n 1, 1) := by decide +kernel
theorem dX2_greatest_19 : decode cX2_greatest 19 = .ok (.if_icmp .le 10, 3) := by decide +kernel
theorem dX2_greatest_22 : decode cX2_greatest 22 = .ok (.aload_n 0, 1) := by decide +kernel
theorem dX2_greatest_23 : decode cX2_greatest 23 = .ok (.getfield 23, 3) := by decide +kernel
theorem dX2_greatest_26 : decode cX2_greatest 26 = .ok (.iload_n 2, 1) := by decide +kernel
theorem dX2_greatest_27 : decode cX2_greatest 27 = .ok (.iaload, 1) := by decide +kernel
theorem dX2_greatest_28 : decode cX2_greatest 28 = .ok (.istore_n 1, 1) := by decide +kernel
theorem dX2_greatest_29 : decode cX2_greatest 29 = .ok (.iinc 2 1, 3) := by decide +kernel
theorem dX2_greatest_32 : decode cX2_greatest 32 = .ok (.goto (-28), 3) := by decide +kernel
theorem dX2_greatest_35 : decode cX2_greatest 35 = .ok (.iload_n 1, 1) := by decide +kernel
theorem dX2_greatest_36 : decode cX2_greatest 36 = .ok (.ireturn, 1) := by decide +kernel
theorem dX2_machineOf_0 : decode cX2_machineOf 0 = .ok (.iload_n 1, 1) := by decide +kernel
theorem dX2_machineOf_1 : decode cX2_machineOf 1 = .ok (.ifCond .lt 18, 3) := by decide +kernel
theorem dX2_machineOf_4 : decode cX2_machineOf 4 = .ok (.iload_n 1, 1) := by decide +kernel
theorem dX2_machineOf_5 : decode cX2_machineOf 5 = .ok (.bipush 7, 2) := by decide +kernel
theorem dX2_machineOf_7 : decode cX2_machineOf 7 = .ok (.if_icmp .gt 12, 3) := by decide +kernel
theorem dX2_machineOf_10 : decode cX2_machineOf 10 = .ok (.aload_n 0, 1) := by decide +kernel
theorem dX2_machineOf_11 : decode cX2_machineOf 11 = .ok (.getfield 13, 3) := by decide +kernel
theorem dX2_machineOf_14 : decode cX2_machineOf 14 = .ok (.iload_n 1, 1) := by decide +kernel
theorem dX2_machineOf_15 : decode cX2_machineOf 15 = .ok (.baload, 1) := by decide +kernel
theorem dX2_machineOf_16 : decode cX2_machineOf 16 = .ok (.ifCond .ne 6, 3) := by decide +kernel
theorem dX2_machineOf_19 : decode cX2_machineOf 19 = .ok (.bipush (-2), 2) := by decide +kernel
theorem dX2_machineOf_21 : decode cX2_machineOf 21 = .ok (.ireturn, 1) := by decide +kernel
theorem dX2_machineOf_22 : decode cX2_machineOf 22 = .ok (.aload_n 0, 1) := by decide +kernel
theorem dX2_machineOf_23 : decode cX2_machineOf 23 = .ok (.invokevirtual 59, 3) := by decide +kernel
theorem dX2_machineOf_26 : decode cX2_machineOf 26 = .ok (.pop, 1) := by decide +kernel
theorem dX2_machineOf_27 : decode cX2_machineOf 27 = .ok (.aload_n 0, 1) := by decide +kernel
theorem dX2_machineOf_28 : decode cX2_machineOf 28 = .ok (.getfield 20, 3) := by decide +kernel
theorem dX2_machineOf_31 : decode cX2_machineOf 31 = .ok (.iload_n 1, 1) := by decide +kernel
theorem dX2_machineOf_32 : decode cX2_machineOf 32 = .ok (.iaload, 1) := by decide +kernel
theorem dX2_machineOf_33 : decode cX2_machineOf 33 = .ok (.ireturn, 1) := by decide +kernel
theorem dX2_endOf_0 : decode cX2_endOf 0 = .ok (.iload_n 1, 1) := by decide +kernel
theorem dX2_endOf_1 : decode cX2_endOf 1 = .ok (.ifCond .lt 11, 3) := by decide +kernel
theorem dX2_endOf_4 : decode cX2_endOf 4 = .ok (.iload_n 1, 1) := by decide +kernel
theorem dX2_endOf_5 : decode cX2_endOf 5 = .ok (.aload_n 0, 1) := by decide +kernel
theorem dX2_endOf_6 : decode cX2_endOf 6 = .ok (.getfield 26, 3) := by decide +kernel
theorem dX2_endOf_9 : decode cX2_endOf 9 = .ok (.if_icmp .lt 6, 3) := by decide +kernel
theorem dX2_endOf_12 : decode cX2_endOf 12 = .ok (.bipush (-2), 2) := by decide +kernel
theorem dX2_endOf_14 : decode cX2_endOf 14 = .ok (.ireturn, 1) := by decide +kernel
theorem dX2_endOf_15 : decode cX2_endOf 15 = .ok (.aload_n 0, 1) := by decide +kernel
theorem dX2_endOf_16 : decode cX2_endOf 16 = .ok (.invokevirtual 59, 3) := by decide +kernel
theorem dX2_endOf_19 : decode cX2_endOf 19 = .ok (.pop, 1) := by decide +kernel
theorem dX2_endOf_20 : decode cX2_endOf 20 = .ok (.aload_n 0, 1) := by decide +kernel
theorem dX2_endOf_21 : decode cX2_endOf 21 = .ok (.getfield 23, 3) := by decide +kernel
theorem dX2_endOf_24 : decode cX2_endOf 24 = .ok (.iload_n 1, 1) := by decide +kernel
theorem dX2_endOf_25 : decode cX2_endOf 25 = .ok (.iaload, 1) := by decide +kernel
theorem dX2_endOf_26 : decode cX2_endOf 26 = .ok (.ireturn, 1) := by decide +kernel
theorem dX2_room_0 : decode cX2_room 0 = .ok (.aload_n 0, 1) := by decide +kernel
theorem dX2_room_1 : decode cX2_room 1 = .ok (.invokevirtual 56, 3) := by decide +kernel
theorem dX2_room_4 : decode cX2_room 4 = .ok (.ireturn, 1) := by decide +kernel
theorem dL_law_0 : decode cL_law 0 = .ok (.new 7, 3) := by decide +kernel
theorem dL_law_3 : decode cL_law 3 = .ok (.dup, 1) := by decide +kernel
theorem dL_law_4 : decode cL_law 4 = .ok (.aload_n 0, 1) := by decide +kernel
theorem dL_law_5 : decode cL_law 5 = .ok (.iconst 0, 1) := by decide +kernel
theorem dL_law_6 : decode cL_law 6 = .ok (.invokestatic 9, 3) := by decide +kernel
theorem dL_law_9 : decode cL_law 9 = .ok (.aload_n 0, 1) := by decide +kernel
theorem dL_law_10 : decode cL_law 10 = .ok (.iconst 1, 1) := by decide +kernel
theorem dL_law_11 : decode cL_law 11 = .ok (.invokestatic 9, 3) := by decide +kernel
theorem dL_law_14 : decode cL_law 14 = .ok (.invokespecial 15, 3) := by decide +kernel
theorem dL_law_17 : decode cL_law 17 = .ok (.astore_n 1, 1) := by decide +kernel
theorem dL_law_18 : decode cL_law 18 = .ok (.new 18, 3) := by decide +kernel
theorem dL_law_21 : decode cL_law 21 = .ok (.dup, 1) := by decide +kernel
theorem dL_law_22 : decode cL_law 22 = .ok (.aload_n 0, 1) := by decide +kernel
theorem dL_law_23 : decode cL_law 23 = .ok (.iconst 0, 1) := by decide +kernel
theorem dL_law_24 : decode cL_law 24 = .ok (.invokestatic 9, 3) := by decide +kernel
theorem dL_law_27 : decode cL_law 27 = .ok (.aload_n 0, 1) := by decide +kernel
theorem dL_law_28 : decode cL_law 28 = .ok (.iconst 1, 1) := by decide +kernel
theorem dL_law_29 : decode cL_law 29 = .ok (.invokestatic 9, 3) := by decide +kernel
theorem dL_law_32 : decode cL_law 32 = .ok (.invokespecial 20, 3) := by decide +kernel
theorem dL_law_35 : decode cL_law 35 = .ok (.astore_n 2, 1) := by decide +kernel
theorem dL_law_36 : decode cL_law 36 = .ok (.iconst 2, 1) := by decide +kernel
theorem dL_law_37 : decode cL_law 37 = .ok (.istore_n 3, 1) := by decide +kernel
theorem dL_law_38 : decode cL_law 38 = .ok (.iload_n 3, 1) := by decide +kernel
theorem dL_law_39 : decode cL_law 39 = .ok (.aload_n 0, 1) := by decide +kernel
theorem dL_law_40 : decode cL_law 40 = .ok (.arraylength, 1) := by decide +kernel
theorem dL_law_41 : decode cL_law 41 = .ok (.iconst 3, 1) := by decide +kernel
theorem dL_law_42 : decode cL_law 42 = .ok (.isub, 1) := by decide +kernel
theorem dL_law_43 : decode cL_law 43 = .ok (.if_icmp .gt 227, 3) := by decide +kernel
theorem dL_law_46 : decode cL_law 46 = .ok (.aload_n 0, 1) := by decide +kernel
theorem dL_law_47 : decode cL_law 47 = .ok (.iload_n 3, 1) := by decide +kernel
theorem dL_law_48 : decode cL_law 48 = .ok (.iaload, 1) := by decide +kernel
theorem dL_law_49 : decode cL_law 49 = .ok (.bipush 7, 2) := by decide +kernel
theorem dL_law_51 : decode cL_law 51 = .ok (.iand, 1) := by decide +kernel
theorem dL_law_52 : decode cL_law 52 = .ok (.tableswitch 212 0 7 #[48, 71, 94, 127, 140, 163, 186, 199], 48) := by decide +kernel
theorem dL_law_100 : decode cL_law 100 = .ok (.aload_n 1, 1) := by decide +kernel
theorem dL_law_101 : decode cL_law 101 = .ok (.aload_n 0, 1) := by decide +kernel
theorem dL_law_102 : decode cL_law 102 = .ok (.iload_n 3, 1) := by decide +kernel
theorem dL_law_103 : decode cL_law 103 = .ok (.iconst 1, 1) := by decide +kernel
theorem dL_law_104 : decode cL_law 104 = .ok (.iadd, 1) := by decide +kernel
theorem dL_law_105 : decode cL_law 105 = .ok (.iaload, 1) := by decide +kernel
theorem dL_law_106 : decode cL_law 106 = .ok (.invokevirtual 21, 3) := by decide +kernel
theorem dL_law_109 : decode cL_law 109 = .ok (.aload_n 2, 1) := by decide +kernel
theorem dL_law_110 : decode cL_law 110 = .ok (.aload_n 0, 1) := by decide +kernel
theorem dL_law_111 : decode cL_law 111 = .ok (.iload_n 3, 1) := by decide +kernel
theorem dL_law_112 : decode cL_law 112 = .ok (.iconst 1, 1) := by decide +kernel
theorem dL_law_113 : decode cL_law 113 = .ok (.iadd, 1) := by decide +kernel
theorem dL_law_114 : decode cL_law 114 = .ok (.iaload, 1) := by decide +kernel
theorem dL_law_115 : decode cL_law 115 = .ok (.invokevirtual 25, 3) := by decide +kernel
theorem dL_law_118 : decode cL_law 118 = .ok (.if_icmp .eq 146, 3) := by decide +kernel
theorem dL_law_121 : decode cL_law 121 = .ok (.iconst 0, 1) := by decide +kernel
theorem dL_law_122 : decode cL_law 122 = .ok (.ireturn, 1) := by decide +kernel
theorem dL_law_123 : decode cL_law 123 = .ok (.aload_n 1, 1) := by decide +kernel
theorem dL_law_124 : decode cL_law 124 = .ok (.aload_n 0, 1) := by decide +kernel
theorem dL_law_125 : decode cL_law 125 = .ok (.iload_n 3, 1) := by decide +kernel
theorem dL_law_126 : decode cL_law 126 = .ok (.iconst 1, 1) := by decide +kernel
theorem dL_law_127 : decode cL_law 127 = .ok (.iadd, 1) := by decide +kernel
theorem dL_law_128 : decode cL_law 128 = .ok (.iaload, 1) := by decide +kernel
theorem dL_law_129 : decode cL_law 129 = .ok (.invokevirtual 26, 3) := by decide +kernel
theorem dL_law_132 : decode cL_law 132 = .ok (.aload_n 2, 1) := by decide +kernel
theorem dL_law_133 : decode cL_law 133 = .ok (.aload_n 0, 1) := by decide +kernel
theorem dL_law_134 : decode cL_law 134 = .ok (.iload_n 3, 1) := by decide +kernel
theorem dL_law_135 : decode cL_law 135 = .ok (.iconst 1, 1) := by decide +kernel
theorem dL_law_136 : decode cL_law 136 = .ok (.iadd, 1) := by decide +kernel
theorem dL_law_137 : decode cL_law 137 = .ok (.iaload, 1) := by decide +kernel
theorem dL_law_138 : decode cL_law 138 = .ok (.invokevirtual 29, 3) := by decide +kernel
theorem dL_law_141 : decode cL_law 141 = .ok (.if_icmp .eq 123, 3) := by decide +kernel
theorem dL_law_144 : decode cL_law 144 = .ok (.iconst 0, 1) := by decide +kernel
theorem dL_law_145 : decode cL_law 145 = .ok (.ireturn, 1) := by decide +kernel
theorem dL_law_146 : decode cL_law 146 = .ok (.aload_n 1, 1) := by decide +kernel
theorem dL_law_147 : decode cL_law 147 = .ok (.aload_n 0, 1) := by decide +kernel
theorem dL_law_148 : decode cL_law 148 = .ok (.iload_n 3, 1) := by decide +kernel
theorem dL_law_149 : decode cL_law 149 = .ok (.iconst 1, 1) := by decide +kernel
theorem dL_law_150 : decode cL_law 150 = .ok (.iadd, 1) := by decide +kernel
theorem dL_law_151 : decode cL_law 151 = .ok (.iaload, 1) := by decide +kernel
theorem dL_law_152 : decode cL_law 152 = .ok (.aload_n 0, 1) := by decide +kernel
theorem dL_law_153 : decode cL_law 153 = .ok (.iload_n 3, 1) := by decide +kernel
theorem dL_law_154 : decode cL_law 154 = .ok (.iconst 2, 1) := by decide +kernel
theorem dL_law_155 : decode cL_law 155 = .ok (.iadd, 1) := by decide +kernel
theorem dL_law_156 : decode cL_law 156 = .ok (.iaload, 1) := by decide +kernel
theorem dL_law_157 : decode cL_law 157 = .ok (.invokevirtual 30, 3) := by decide +kernel
theorem dL_law_160 : decode cL_law 160 = .ok (.aload_n 2, 1) := by decide +kernel
theorem dL_law_161 : decode cL_law 161 = .ok (.aload_n 0, 1) := by decide +kernel
theorem dL_law_162 : decode cL_law 162 = .ok (.iload_n 3, 1) := by decide +kernel
theorem dL_law_163 : decode cL_law 163 = .ok (.iconst 1, 1) := by decide +kernel
theorem dL_law_164 : decode cL_law 164 = .ok (.iadd, 1) := by decide +kernel
theorem dL_law_165 : decode cL_law 165 = .ok (.iaload, 1) := by decide +kernel
theorem dL_law_166 : decode cL_law 166 = .ok (.aload_n 0, 1) := by decide +kernel
theorem dL_law_167 : decode cL_law 167 = .ok (.iload_n 3, 1) := by decide +kernel
theorem dL_law_168 : decode cL_law 168 = .ok (.iconst 2, 1) := by decide +kernel
theorem dL_law_169 : decode cL_law 169 = .ok (.iadd, 1) := by decide +kernel
theorem dL_law_170 : decode cL_law 170 = .ok (.iaload, 1) := by decide +kernel
theorem dL_law_171 : decode cL_law 171 = .ok (.invokevirtual 34, 3) := by decide +kernel
theorem dL_law_174 : decode cL_law 174 = .ok (.if_icmp .eq 90, 3) := by decide +kernel
theorem dL_law_177 : decode cL_law 177 = .ok (.iconst 0, 1) := by decide +kernel
theorem dL_law_178 : decode cL_law 178 = .ok (.ireturn, 1) := by decide +kernel
theorem dL_law_179 : decode cL_law 179 = .ok (.aload_n 1, 1) := by decide +kernel
theorem dL_law_180 : decode cL_law 180 = .ok (.invokevirtual 35, 3) := by decide +kernel
theorem dL_law_183 : decode cL_law 183 = .ok (.aload_n 2, 1) := by decide +kernel
theorem dL_law_184 : decode cL_law 184 = .ok (.invokevirtual 39, 3) := by decide +kernel
theorem dL_law_187 : decode cL_law 187 = .ok (.if_icmp .eq 77, 3) := by decide +kernel
theorem dL_law_190 : decode cL_law 190 = .ok (.iconst 0, 1) := by decide +kernel
theorem dL_law_191 : decode cL_law 191 = .ok (.ireturn, 1) := by decide +kernel
theorem dL_law_192 : decode cL_law 192 = .ok (.aload_n 1, 1) := by decide +kernel
theorem dL_law_193 : decode cL_law 193 = .ok (.aload_n 0, 1) := by decide +kernel
theorem dL_law_194 : decode cL_law 194 = .ok (.iload_n 3, 1) := by decide +kernel
theorem dL_law_195 : decode cL_law 195 = .ok (.iconst 1, 1) := by decide +kernel
theorem dL_law_196 : decode cL_law 196 = .ok (.iadd, 1) := by decide +kernel
theorem dL_law_197 : decode cL_law 197 = .ok (.iaload, 1) := by decide +kernel
theorem dL_law_198 : decode cL_law 198 = .ok (.invokevirtual 40, 3) := by decide +kernel
theorem dL_law_201 : decode cL_law 201 = .ok (.aload_n 2, 1) := by decide +kernel
theorem dL_law_202 : decode cL_law 202 = .ok (.aload_n 0, 1) := by decide +kernel
theorem dL_law_203 : decode cL_law 203 = .ok (.iload_n 3, 1) := by decide +kernel
theorem dL_law_204 : decode cL_law 204 = .ok (.iconst 1, 1) := by decide +kernel
theorem dL_law_205 : decode cL_law 205 = .ok (.iadd, 1) := by decide +kernel
theorem dL_law_206 : decode cL_law 206 = .ok (.iaload, 1) := by decide +kernel
theorem dL_law_207 : decode cL_law 207 = .ok (.invokevirtual 43, 3) := by decide +kernel
theorem dL_law_210 : decode cL_law 210 = .ok (.if_icmp .eq 54, 3) := by decide +kernel
theorem dL_law_213 : decode cL_law 213 = .ok (.iconst 0, 1) := by decide +kernel
theorem dL_law_214 : decode cL_law 214 = .ok (.ireturn, 1) := by decide +kernel
theorem dL_law_215 : decode cL_law 215 = .ok (.aload_n 1, 1) := by decide +kernel
theorem dL_law_216 : decode cL_law 216 = .ok (.aload_n 0, 1) := by decide +kernel
theorem dL_law_217 : decode cL_law 217 = .ok (.iload_n 3, 1) := by decide +kernel
theorem dL_law_218 : decode cL_law 218 = .ok (.iconst 1, 1) := by decide +kernel
theorem dL_law_219 : decode cL_law 219 = .ok (.iadd, 1) := by decide +kernel
theorem dL_law_220 : decode cL_law 220 = .ok (.iaload, 1) := by decide +kernel
theorem dL_law_221 : decode cL_law 221 = .ok (.invokevirtual 44, 3) := by decide +kernel
theorem dL_law_224 : decode cL_law 224 = .ok (.aload_n 2, 1) := by decide +kernel
theorem dL_law_225 : decode cL_law 225 = .ok (.aload_n 0, 1) := by decide +kernel
theorem dL_law_226 : decode cL_law 226 = .ok (.iload_n 3, 1) := by decide +kernel
theorem dL_law_227 : decode cL_law 227 = .ok (.iconst 1, 1) := by decide +kernel
theorem dL_law_228 : decode cL_law 228 = .ok (.iadd, 1) := by decide +kernel
theorem dL_law_229 : decode cL_law 229 = .ok (.iaload, 1) := by decide +kernel
theorem dL_law_230 : decode cL_law 230 = .ok (.invokevirtual 47, 3) := by decide +kernel
theorem dL_law_233 : decode cL_law 233 = .ok (.if_icmp .eq 31, 3) := by decide +kernel
theorem dL_law_236 : decode cL_law 236 = .ok (.iconst 0, 1) := by decide +kernel
theorem dL_law_237 : decode cL_law 237 = .ok (.ireturn, 1) := by decide +kernel
theorem dL_law_238 : decode cL_law 238 = .ok (.aload_n 1, 1) := by decide +kernel
theorem dL_law_239 : decode cL_law 239 = .ok (.invokevirtual 48, 3) := by decide +kernel
theorem dL_law_242 : decode cL_law 242 = .ok (.aload_n 2, 1) := by decide +kernel
theorem dL_law_243 : decode cL_law 243 = .ok (.invokevirtual 51, 3) := by decide +kernel
theorem dL_law_246 : decode cL_law 246 = .ok (.if_icmp .eq 18, 3) := by decide +kernel
theorem dL_law_249 : decode cL_law 249 = .ok (.iconst 0, 1) := by decide +kernel
theorem dL_law_250 : decode cL_law 250 = .ok (.ireturn, 1) := by decide +kernel
theorem dL_law_251 : decode cL_law 251 = .ok (.aload_n 1, 1) := by decide +kernel
theorem dL_law_252 : decode cL_law 252 = .ok (.invokevirtual 52, 3) := by decide +kernel
theorem dL_law_255 : decode cL_law 255 = .ok (.aload_n 2, 1) := by decide +kernel
theorem dL_law_256 : decode cL_law 256 = .ok (.invokevirtual 55, 3) := by decide +kernel
theorem dL_law_259 : decode cL_law 259 = .ok (.if_icmp .eq 5, 3) := by decide +kernel
theorem dL_law_262 : decode cL_law 262 = .ok (.iconst 0, 1) := by decide +kernel
theorem dL_law_263 : decode cL_law 263 = .ok (.ireturn, 1) := by decide +kernel
theorem dL_law_264 : decode cL_law 264 = .ok (.iinc 3 3, 3) := by decide +kernel
theorem dL_law_267 : decode cL_law 267 = .ok (.goto (-229), 3) := by decide +kernel
theorem dL_law_270 : decode cL_law 270 = .ok (.iconst 1, 1) := by decide +kernel
theorem dL_law_271 : decode cL_law 271 = .ok (.ireturn, 1) := by decide +kernel
end
section
/-! ROWS OVER WHOLE INTS: a machine int as zI of an Int; the judgement JJ hides heap, frame and locals' array; the classes of this claim -/
set_option maxRecDepth 100000
def zI (a : Int) : Int32 := Int32.ofInt a
def zF (f : Nat → Int) : Nat → Int32 := fun j => zI (f j)
def zU (f : Nat → Int) (k : Nat) (v : Int) : Nat → Int := fun j => if j = k then v else f j
theorem zU_s {f : Nat → Int} {k : Nat} {v : Int} : zU f k v k = v := if_pos rfl
theorem zU_n {f : Nat → Int} {k j : Nat} {v : Int} (h : j ≠ k) : zU f k v j = f j := if_neg h
theorem zI_toInt {a : Int} (h : -2147483648 ≤ a ∧ a < 2147483648) : (zI a).toInt = a := Int32.toInt_ofInt_of_le (by omega) (by omega)
theorem zI_of (y : Int32) : zI y.toInt = y := Int32.ofInt_toInt y
theorem zI_rng (y : Int32) : -2147483648 ≤ y.toInt ∧ y.toInt < 2147483648 := by
  have h1 := Int32.le_toInt y
  have h2 := Int32.toInt_lt y
  omega
theorem zI_add (a b : Int) : zI a + zI b = zI (a + b) := (Int32.ofInt_add a b).symm
theorem zI_sub (a b : Int) : zI a - zI b = zI (a - b) := (Int32.ofInt_sub a b).symm
theorem zI_mul (a b : Int) : zI a * zI b = zI (a * b) := (Int32.ofInt_mul a b).symm
theorem zI_lt {a b : Int} (ha : -2147483648 ≤ a ∧ a < 2147483648) (hb : -2147483648 ≤ b ∧ b < 2147483648) : zI a < zI b ↔ a < b := by
  rw [Int32.lt_iff_toInt_lt, zI_toInt ha, zI_toInt hb]
theorem zI_le {a b : Int} (ha : -2147483648 ≤ a ∧ a < 2147483648) (hb : -2147483648 ≤ b ∧ b < 2147483648) : zI a ≤ zI b ↔ a ≤ b := by
  rw [Int32.le_iff_toInt_le, zI_toInt ha, zI_toInt hb]
theorem zI_eq {a b : Int} (ha : -2147483648 ≤ a ∧ a < 2147483648) (hb : -2147483648 ≤ b ∧ b < 2147483648) : zI a = zI b ↔ a = b :=
  ⟨fun h => by have h2 := congrArg Int32.toInt h; rwa [zI_toInt ha, zI_toInt hb] at h2, fun h => by rw [h]⟩
theorem zI_0 : (0 : Int32) = zI 0 := by decide +kernel
theorem zI_1 : (1 : Int32) = zI 1 := by decide +kernel
theorem zI_nat (n : Nat) : zI (n : Int) = nI n := Int32.ofInt_eq_ofNat
theorem zI_cl {a : Int} {n : Nat} (h : a = n) (hn : n < 2147483648) : (zI a).toNatClampNeg = n := by
  subst h
  rw [zI_nat]
  exact nI_clamp (by omega)
theorem zI_in {a : Int} {n N : Nat} (h : a = n) (hn : n < N) (hN : N < 2147483648) : vp_in (zI a) N :=
  vp_in_iff.mpr (by rw [zI_toInt (by omega)]; omega)
theorem zI_div {a b : Int} (ha : 0 ≤ a ∧ a < 2147483648) (hb : 0 < b ∧ b < 2147483648) : zI a / zI b = zI (a / b) := by
  have hne : zI b ≠ -1 := fun h => by
    have h2 := congrArg Int32.toInt h
    rw [zI_toInt (by omega), show (-1 : Int32).toInt = -1 from by decide +kernel] at h2
    omega
  have h0 : 0 ≤ a / b := Int.ediv_nonneg ha.1 (by omega)
  have h1 : a / b ≤ a := Int.ediv_le_self _ ha.1
  refine Int32.toInt_inj.mp ?_
  rw [Int32.toInt_div_of_ne_right _ _ hne, zI_toInt (by omega), zI_toInt (by omega), zI_toInt (by omega), Int.tdiv_eq_ediv_of_nonneg ha.1]
theorem zI_rem {a b : Int} (ha : 0 ≤ a ∧ a < 2147483648) (hb : 0 < b ∧ b < 2147483648) : zI a - zI a / zI b * zI b = zI (a % b) := by
  rw [zI_div ha hb, zI_mul, zI_sub]
  congr 1
  have := Int.emod_def a b
  rw [this, Int.mul_comm]
theorem zI_ne0 {a : Int} (ha : -2147483648 ≤ a ∧ a < 2147483648) (h : a ≠ 0) : ¬ zI a = 0 := by
  rw [zI_0, zI_eq ha (by omega)]
  exact h
theorem zF_up (f : Nat → Int) {i : Int} {n : Nat} (v : Int) (h : i = n) (hn : n < 2147483648) : upd (zF f) (zI i).toNatClampNeg (zI v) = zF (zU f n v) := by
  funext j
  rw [zI_cl h hn]
  by_cases hj : j = n
  · simp [upd, zF, zU, hj]
  · simp [upd, zF, zU, hj]
theorem nz_0 : narrow .boolean (.int (zI 0)) = .int (zI 0) := by decide +kernel
theorem nz_1 : narrow .boolean (.int (zI 1)) = .int (zI 1) := by decide +kernel
theorem nf_0 : fits .boolean (.int (zI 0)) = true := by decide +kernel
theorem nf_1 : fits .boolean (.int (zI 1)) = true := by decide +kernel
theorem vn_0 : vp_nar .boolean (zI 0) = zI 0 := by decide +kernel
theorem vn_1 : vp_nar .boolean (zI 1) = zI 1 := by decide +kernel
/-- locals: the one at i is v now -/
def lput : List (Nat × Value) → Nat → Value → List (Nat × Value)
  | [], i, v => [(i, v)]
  | q :: t, i, v => bif Nat.beq q.1 i then (i, v) :: t.filter (fun r => !(Nat.beq r.1 i)) else q :: lput t i v
theorem lput_mem : ∀ (lv : List (Nat × Value)) (i : Nat) (v : Value) (q : Nat × Value), q ∈ lput lv i v → q = (i, v) ∨ (q ∈ lv ∧ q.1 ≠ i)
  | [], i, v, q, h => by
    simp [lput] at h
    exact Or.inl h
  | r :: t, i, v, q, h => by
    unfold lput at h
    cases hb : Nat.beq r.1 i with
    | true =>
      rw [hb, cond_true] at h
      rcases List.mem_cons.mp h with h | h
      · exact Or.inl h
      · have h2 := List.mem_filter.mp h
        refine Or.inr ⟨List.mem_cons_of_mem _ h2.1, fun e => ?_⟩
        have h3 := h2.2
        rw [e] at h3
        simp at h3
    | false =>
      rw [hb, cond_false] at h
      rcases List.mem_cons.mp h with h | h
      · subst h
        refine Or.inr ⟨List.mem_cons_self, fun e => ?_⟩
        rw [e] at hb
        simp at hb
      · rcases lput_mem t i v q h with h | h
        · exact Or.inl h
        · exact Or.inr ⟨List.mem_cons_of_mem _ h.1, h.2⟩
theorem lput_has {ls : Array Slot} {nL : Nat} {lv lv' : List (Nat × Value)} {i : Nat} {v : Value} (h : lv_has ls nL ((i, v) :: lv.filter (fun q => !(q.1 == i) && !(q.1 + 1 == i && q.2.category == 2)))) (hl : lput lv i v = lv') (hc : lv'.all (fun q => q.2.category == 1) = true) : lv_has ls nL lv' := by
  refine ⟨h.1, h.2.1, fun q hq => ?_⟩
  have hc1 := List.all_eq_true.mp hc q hq
  rw [← hl] at hq
  rcases lput_mem _ _ _ _ hq with e | ⟨e, n⟩
  · rw [e]
    exact h.2.2 (i, v) List.mem_cons_self
  · refine h.2.2 q (List.mem_cons_of_mem _ (List.mem_filter.mpr ⟨e, ?_⟩))
    have hc2 : q.2.category = 1 := by simpa using hc1
    simp [n, hc2]
/-- the classes of this claim -/
abbrev vwCl : List vw_C := [(RX1, TX1, 13), (RX2, TX2, 7)]
/-- a walk's fixed things: program, launch, env, room, start, method, args, below, meth, code, goal, locals, classes' data, what may change -/
abbrev JK : Type _ := Program × Launch × Env × Room × State × MethodId × Array Value × List Frame × Method × Code × (State → Prop) × Nat × va_G × (Nat → Prop)
abbrev kp (k : JK) := k.1
abbrev kl (k : JK) := k.2.1
abbrev ke (k : JK) := k.2.2.1
abbrev kr (k : JK) := k.2.2.2.1
abbrev ks (k : JK) := k.2.2.2.2.1
abbrev km (k : JK) := k.2.2.2.2.2.1
abbrev ka (k : JK) := k.2.2.2.2.2.2.1
abbrev kb (k : JK) := k.2.2.2.2.2.2.2.1
abbrev kt (k : JK) := k.2.2.2.2.2.2.2.2.1
abbrev kc (k : JK) := k.2.2.2.2.2.2.2.2.2.1
abbrev kq (k : JK) := k.2.2.2.2.2.2.2.2.2.2.1
abbrev kn (k : JK) := k.2.2.2.2.2.2.2.2.2.2.2.1
abbrev kD (k : JK) := k.2.2.2.2.2.2.2.2.2.2.2.2.1
abbrev kA (k : JK) := k.2.2.2.2.2.2.2.2.2.2.2.2.2
def JJ (k : JK) (cs sl : Nat) (ws : va_W) (pc : Nat) (lv : List (Nat × Value)) (st : List Value) : Prop :=
  ∀ (ls : Array Slot) (H : Heap) (locs : List Loc), lv_has ls (kn k) lv → va_P (kD k) vwCl ws H → va_D (kA k) ws → va_S (kA k) (ks k).heap H locs →
    W (kp k) (kl k) (ke k) (kr k) (ks k) (km k) (ka k) (kb k) (kt k) (kc k) H locs cs sl (kq k) (F0 (km k) pc ls st)
def jC (k : JK) (cc : ByteArray) (nL : Nat) (own : String) (tys : List (ClassId × FieldType)) (rm : Room) : Prop :=
  (kp k).tables.exec = Jvm.exec ∧ (kc k).code = cc ∧ (kc k).maxLocals = nL ∧ (ks k).vm.findClass own = some (km k).cls ∧ (∀ w ∈ lw_all, w.before (ka k) (ks k) = true) ∧ va_K (kD k) vwCl tys (ks k) ∧ (∀ q, (ks k).heap.size ≤ q → kA k q) ∧ kn k = nL ∧ kr k = rm
def jI (k : JK) (cc : ByteArray) (rt : FieldType) (post : Int → va_W → Prop) : Prop :=
  ∀ (pc : Nat) (ls : Array Slot) (v : Int) (u : va_W) (H : Heap) (locs : List Loc), decode cc pc = .ok (.ireturn, 1) → narrow rt (.int (zI v)) = .int (zI v) → post v u → va_P (kD k) vwCl u H → va_D (kA k) u → va_S (kA k) (ks k).heap H locs →
    W (kp k) (kl k) (ke k) (kr k) (ks k) (km k) (ka k) (kb k) (kt k) (kc k) H locs 0 0 (kq k) (F0 (km k) pc ls [.int (zI v)])
def jV (k : JK) (cc : ByteArray) (post : va_W → Prop) : Prop :=
  ∀ (pc : Nat) (ls : Array Slot) (u : va_W) (H : Heap) (locs : List Loc), decode cc pc = .ok (.return_, 1) → post u → va_P (kD k) vwCl u H → va_D (kA k) u → va_S (kA k) (ks k).heap H locs →
    W (kp k) (kl k) (ke k) (kr k) (ks k) (km k) (ka k) (kb k) (kt k) (kc k) H locs 0 0 (kq k) (F0 (km k) pc ls [])
section JRows
variable {k : JK} {cc : ByteArray} {nL : Nat} {own : String} {tys : List (ClassId × FieldType)} {rm : Room} {cs sl pc : Nat} {ws : va_W} {lv : List (Nat × Value)} {st : List Value}
theorem j_ret {rt : FieldType} {post : Int → va_W → Prop} {v : Int} (h : jI k cc rt post) (hd : decode cc pc = .ok (.ireturn, 1)) (hn : narrow rt (.int (zI v)) = .int (zI v)) (hp : post v ws) : JJ k 0 0 ws pc lv [.int (zI v)] :=
  fun ls H locs _ hP hD hS => h pc ls v ws H locs hd hn hp hP hD hS
theorem j_vret {post : va_W → Prop} (h : jV k cc post) (hd : decode cc pc = .ok (.return_, 1)) (hp : post ws) : JJ k 0 0 ws pc lv [] :=
  fun ls H locs _ hP hD hS => h pc ls ws H locs hd hp hP hD hS
/-- fewer locals, or in another order -/
theorem j_sub {lv' : List (Nat × Value)} (is : List Nat) (h : lv_pick lv is = lv') (kk : JJ k cs sl ws pc lv' st) : JJ k cs sl ws pc lv st :=
  fun ls H locs hl hP hD hS => kk ls H locs (lv_sub hl is h) hP hD hS
/-- the same, otherwise written -/
theorem j_eq {ws' : va_W} {lv' : List (Nat × Value)} {st' : List Value} (h1 : ws = ws') (h2 : lv = lv') (h3 : st = st') (kk : JJ k cs sl ws' pc lv' st') : JJ k cs sl ws pc lv st := by
  subst h1; subst h2; subst h3; exact kk
theorem j_iconst (C : jC k cc nL own tys rm) {n : Int} (hd : decode cc pc = .ok (.iconst n, 1)) (kk : JJ k cs sl ws (pc + 1) lv (.int (zI n) :: st)) : JJ k cs sl ws pc lv st :=
  fun ls H locs hl hP hD hS => lv_iconst C.1 C.2.1 hd rfl (kk ls H locs hl hP hD hS)
theorem j_bipush (C : jC k cc nL own tys rm) {n : Int} (hd : decode cc pc = .ok (.bipush n, 2)) (hv : (Int8.ofInt n).toInt32 = zI n) (kk : JJ k cs sl ws (pc + 2) lv (.int (zI n) :: st)) : JJ k cs sl ws pc lv st :=
  fun ls H locs hl hP hD hS => lv_bipush C.1 C.2.1 hd hv (kk ls H locs hl hP hD hS)
theorem j_sipush (C : jC k cc nL own tys rm) {n : Int} (hd : decode cc pc = .ok (.sipush n, 3)) (hv : (Int16.ofInt n).toInt32 = zI n) (kk : JJ k cs sl ws (pc + 3) lv (.int (zI n) :: st)) : JJ k cs sl ws pc lv st :=
  fun ls H locs hl hP hD hS => lv_sipush C.1 C.2.1 hd hv (kk ls H locs hl hP hD hS)
theorem j_ldc (C : jC k cc nL own tys rm) {idx : Nat} {v : Int32} (n : Int) (hc : Cond.constant own idx v ∈ lw_all) (hv : v = zI n) (hd : decode cc pc = .ok (.ldc idx, 2)) (kk : JJ k cs sl ws (pc + 2) lv (.int (zI n) :: st)) : JJ k cs sl ws pc lv st := by
  subst hv
  exact fun ls H locs hl hP hD hS => lv_ldc C.1 C.2.1 C.2.2.2.1 (C.2.2.2.2.1 _ hc) hd (kk ls H locs hl hP hD hS)
theorem j_iload_n (C : jC k cc nL own tys rm) {i : Fin 4} {v : Int32} (hd : decode cc pc = .ok (.iload_n i, 1)) (q : Nat) (hl : lv[q]? = some (i.val, .int v)) (kk : JJ k cs sl ws (pc + 1) lv (.int v :: st)) : JJ k cs sl ws pc lv st :=
  fun ls H locs h hP hD hS => lv_iload_n C.1 C.2.1 hd rfl (lv_at h q hl) (kk ls H locs h hP hD hS)
theorem j_iload (C : jC k cc nL own tys rm) {i : Nat} {v : Int32} (hd : decode cc pc = .ok (.iload i, 2)) (q : Nat) (hl : lv[q]? = some (i, .int v)) (kk : JJ k cs sl ws (pc + 2) lv (.int v :: st)) : JJ k cs sl ws pc lv st :=
  fun ls H locs h hP hD hS => lv_iload C.1 C.2.1 hd (lv_at h q hl) (kk ls H locs h hP hD hS)
theorem j_aload_n (C : jC k cc nL own tys rm) {i : Fin 4} {v : Nat} (hd : decode cc pc = .ok (.aload_n i, 1)) (q : Nat) (hl : lv[q]? = some (i.val, .ref v)) (kk : JJ k cs sl ws (pc + 1) lv (.ref v :: st)) : JJ k cs sl ws pc lv st :=
  fun ls H locs h hP hD hS => lv_aload_n C.1 C.2.1 hd rfl (lv_at h q hl) (kk ls H locs h hP hD hS)
theorem j_istore_n (C : jC k cc nL own tys rm) {i : Fin 4} {v : Int32} {lv' : List (Nat × Value)} (hd : decode cc pc = .ok (.istore_n i, 1)) (hi : i.val < nL) (hl : lput lv i.val (.int v) = lv') (hc : lv'.all (fun q => q.2.category == 1) = true) (kk : JJ k cs sl ws (pc + 1) lv' st) : JJ k cs sl ws pc lv (.int v :: st) :=
  fun ls H locs h hP hD hS => lv_istore_n C.1 C.2.1 hd rfl h (by rw [C.2.2.2.2.2.2.2.1]; exact hi) rfl (fun ls' h' => kk ls' H locs (lput_has h' hl hc) hP hD hS)
theorem j_istore (C : jC k cc nL own tys rm) {i : Nat} {v : Int32} {lv' : List (Nat × Value)} (hd : decode cc pc = .ok (.istore i, 2)) (hi : i < nL) (hl : lput lv i (.int v) = lv') (hc : lv'.all (fun q => q.2.category == 1) = true) (kk : JJ k cs sl ws (pc + 2) lv' st) : JJ k cs sl ws pc lv (.int v :: st) :=
  fun ls H locs h hP hD hS => lv_istore C.1 C.2.1 hd h (by rw [C.2.2.2.2.2.2.2.1]; exact hi) rfl (fun ls' h' => kk ls' H locs (lput_has h' hl hc) hP hD hS)
theorem j_astore_n (C : jC k cc nL own tys rm) {i : Fin 4} {v : Nat} {lv' : List (Nat × Value)} (hd : decode cc pc = .ok (.astore_n i, 1)) (hi : i.val < nL) (hl : lput lv i.val (.ref v) = lv') (hc : lv'.all (fun q => q.2.category == 1) = true) (kk : JJ k cs sl ws (pc + 1) lv' st) : JJ k cs sl ws pc lv (.ref v :: st) :=
  fun ls H locs h hP hD hS => lv_astore_n C.1 C.2.1 hd rfl h (by rw [C.2.2.2.2.2.2.2.1]; exact hi) rfl (fun ls' h' => kk ls' H locs (lput_has h' hl hc) hP hD hS)
theorem j_iinc (C : jC k cc nL own tys rm) {i : Nat} {n a : Int} (v : Int) {lv' : List (Nat × Value)} (hd : decode cc pc = .ok (.iinc i n, 3)) (q : Nat) (hq : lv[q]? = some (i, .int (zI a))) (hv : a + n = v) (hi : i < nL) (hl : lput lv i (.int (zI v)) = lv') (hc : lv'.all (fun q => q.2.category == 1) = true) (kk : JJ k cs sl ws (pc + 3) lv' st) : JJ k cs sl ws pc lv st :=
  fun ls H locs h hP hD hS => lv_iinc (v := zI v) C.1 C.2.1 hd h hq (by rw [← hv, ← zI_add]; rfl) (by rw [C.2.2.2.2.2.2.2.1]; exact hi) rfl (fun ls' h' => kk ls' H locs (lput_has h' hl hc) hP hD hS)
theorem j_iadd (C : jC k cc nL own tys rm) {a b : Int} (hd : decode cc pc = .ok (.iadd, 1)) (kk : JJ k cs sl ws (pc + 1) lv (.int (zI (a + b)) :: st)) : JJ k cs sl ws pc lv (.int (zI b) :: .int (zI a) :: st) :=
  fun ls H locs h hP hD hS => lv_iadd C.1 C.2.1 hd (by rw [zI_add]; exact kk ls H locs h hP hD hS)
theorem j_isub (C : jC k cc nL own tys rm) {a b : Int} (hd : decode cc pc = .ok (.isub, 1)) (kk : JJ k cs sl ws (pc + 1) lv (.int (zI (a - b)) :: st)) : JJ k cs sl ws pc lv (.int (zI b) :: .int (zI a) :: st) :=
  fun ls H locs h hP hD hS => lv_isub C.1 C.2.1 hd (by rw [zI_sub]; exact kk ls H locs h hP hD hS)
theorem j_imul (C : jC k cc nL own tys rm) {a b : Int} (hd : decode cc pc = .ok (.imul, 1)) (kk : JJ k cs sl ws (pc + 1) lv (.int (zI (a * b)) :: st)) : JJ k cs sl ws pc lv (.int (zI b) :: .int (zI a) :: st) :=
  fun ls H locs h hP hD hS => lv_imul C.1 C.2.1 hd (by rw [zI_mul]; exact kk ls H locs h hP hD hS)
theorem j_idiv (C : jC k cc nL own tys rm) {a b : Int} (hd : decode cc pc = .ok (.idiv, 1)) (ha : 0 ≤ a ∧ a < 2147483648) (hb : 0 < b ∧ b < 2147483648) (kk : JJ k cs sl ws (pc + 1) lv (.int (zI (a / b)) :: st)) : JJ k cs sl ws pc lv (.int (zI b) :: .int (zI a) :: st) :=
  fun ls H locs h hP hD hS => lv_idiv C.1 C.2.1 hd (zI_ne0 (by omega) (by omega)) (by rw [zI_div ha hb]; exact kk ls H locs h hP hD hS)
theorem j_irem (C : jC k cc nL own tys rm) {a b : Int} (hd : decode cc pc = .ok (.irem, 1)) (ha : 0 ≤ a ∧ a < 2147483648) (hb : 0 < b ∧ b < 2147483648) (kk : JJ k cs sl ws (pc + 1) lv (.int (zI (a % b)) :: st)) : JJ k cs sl ws pc lv (.int (zI b) :: .int (zI a) :: st) :=
  fun ls H locs h hP hD hS => lv_irem C.1 C.2.1 hd (zI_ne0 (by omega) (by omega)) (by rw [zI_rem ha hb]; exact kk ls H locs h hP hD hS)
theorem j_iand (C : jC k cc nL own tys rm) {a b : Int32} (hd : decode cc pc = .ok (.iand, 1)) (kk : JJ k cs sl ws (pc + 1) lv (.int (a &&& b) :: st)) : JJ k cs sl ws pc lv (.int b :: .int a :: st) :=
  fun ls H locs h hP hD hS => lv_iand C.1 C.2.1 hd (kk ls H locs h hP hD hS)
theorem j_dup (C : jC k cc nL own tys rm) {v : Value} (hd : decode cc pc = .ok (.dup, 1)) (hv : v.category = 1) (kk : JJ k cs sl ws (pc + 1) lv (v :: v :: st)) : JJ k cs sl ws pc lv (v :: st) :=
  fun ls H locs h hP hD hS => lv_dup C.1 C.2.1 hd hv (kk ls H locs h hP hD hS)
theorem j_goto (C : jC k cc nL own tys rm) {off : Int} {tgt : Nat} (hd : decode cc pc = .ok (.goto off, 3)) (ht : (pc : Int) + off = (tgt : Int)) (kk : JJ k cs sl ws tgt lv st) : JJ k cs sl ws pc lv st :=
  fun ls H locs h hP hD hS => lv_goto C.1 C.2.1 hd ht (kk ls H locs h hP hD hS)
theorem j_pop (C : jC k cc nL own tys rm) {v : Value} (hd : decode cc pc = .ok (.pop, 1)) (hv : v.category = 1) (kk : JJ k cs sl ws (pc + 1) lv st) : JJ k cs sl ws pc lv (v :: st) :=
  fun ls H locs h hP hD hS => lv_pop C.1 C.2.1 hd hv (kk ls H locs h hP hD hS)
theorem j_dup2 (C : jC k cc nL own tys rm) {v w : Value} (hd : decode cc pc = .ok (.dup2, 1)) (hv : v.category = 1) (hw : w.category = 1) (kk : JJ k cs sl ws (pc + 1) lv (v :: w :: v :: w :: st)) : JJ k cs sl ws pc lv (v :: w :: st) :=
  fun ls H locs h hP hD hS => lv_dup2_11 C.1 C.2.1 hd hv hw (kk ls H locs h hP hD hS)
theorem j_icmp_eq (C : jC k cc nL own tys rm) {a b : Int} {off : Int} {tgt : Nat} (hd : decode cc pc = .ok (.if_icmp .eq off, 3)) (ht : (pc : Int) + off = (tgt : Int)) (ha : -2147483648 ≤ a ∧ a < 2147483648) (hb : -2147483648 ≤ b ∧ b < 2147483648) (k1 : a = b → JJ k cs sl ws tgt lv st) (k2 : ¬ a = b → JJ k cs sl ws (pc + 3) lv st) : JJ k cs sl ws pc lv (.int (zI b) :: .int (zI a) :: st) :=
  fun ls H locs h hP hD hS => lv_icmp_eq C.1 C.2.1 hd ht (fun e => k1 ((zI_eq ha hb).mp e) ls H locs h hP hD hS) (fun e => k2 (fun f => e ((zI_eq ha hb).mpr f)) ls H locs h hP hD hS)
theorem j_if_eq (C : jC k cc nL own tys rm) {a : Int} {off : Int} {tgt : Nat} (hd : decode cc pc = .ok (.ifCond .eq off, 3)) (ht : (pc : Int) + off = (tgt : Int)) (ha : -2147483648 ≤ a ∧ a < 2147483648) (k1 : a = 0 → JJ k cs sl ws tgt lv st) (k2 : ¬ a = 0 → JJ k cs sl ws (pc + 3) lv st) : JJ k cs sl ws pc lv (.int (zI a) :: st) :=
  have hz : -2147483648 ≤ (0 : Int) ∧ (0 : Int) < 2147483648 := by omega
  fun ls H locs h hP hD hS => lv_if_eq C.1 C.2.1 hd ht (fun e => k1 (by rw [zI_0] at e; exact (zI_eq ha hz).mp e) ls H locs h hP hD hS) (fun e => k2 (fun f => e (by rw [zI_0]; exact (zI_eq ha hz).mpr f)) ls H locs h hP hD hS)
theorem j_icmp_ne (C : jC k cc nL own tys rm) {a b : Int} {off : Int} {tgt : Nat} (hd : decode cc pc = .ok (.if_icmp .ne off, 3)) (ht : (pc : Int) + off = (tgt : Int)) (ha : -2147483648 ≤ a ∧ a < 2147483648) (hb : -2147483648 ≤ b ∧ b < 2147483648) (k1 : ¬ a = b → JJ k cs sl ws tgt lv st) (k2 : a = b → JJ k cs sl ws (pc + 3) lv st) : JJ k cs sl ws pc lv (.int (zI b) :: .int (zI a) :: st) :=
  fun ls H locs h hP hD hS => lv_icmp_ne C.1 C.2.1 hd ht (fun e => k1 (fun f => e ((zI_eq ha hb).mpr f)) ls H locs h hP hD hS) (fun e => k2 ((zI_eq ha hb).mp e) ls H locs h hP hD hS)
theorem j_if_ne (C : jC k cc nL own tys rm) {a : Int} {off : Int} {tgt : Nat} (hd : decode cc pc = .ok (.ifCond .ne off, 3)) (ht : (pc : Int) + off = (tgt : Int)) (ha : -2147483648 ≤ a ∧ a < 2147483648) (k1 : ¬ a = 0 → JJ k cs sl ws tgt lv st) (k2 : a = 0 → JJ k cs sl ws (pc + 3) lv st) : JJ k cs sl ws pc lv (.int (zI a) :: st) :=
  fun ls H locs h hP hD hS => lv_if_ne C.1 C.2.1 hd ht (fun e => k1 (fun f => e (by rw [f]; rfl)) ls H locs h hP hD hS) (fun e => k2 (by rw [zI_0] at e; exact (zI_eq ha (by omega)).mp e) ls H locs h hP hD hS)
theorem j_icmp_lt (C : jC k cc nL own tys rm) {a b : Int} {off : Int} {tgt : Nat} (hd : decode cc pc = .ok (.if_icmp .lt off, 3)) (ht : (pc : Int) + off = (tgt : Int)) (ha : -2147483648 ≤ a ∧ a < 2147483648) (hb : -2147483648 ≤ b ∧ b < 2147483648) (k1 : a < b → JJ k cs sl ws tgt lv st) (k2 : ¬ a < b → JJ k cs sl ws (pc + 3) lv st) : JJ k cs sl ws pc lv (.int (zI b) :: .int (zI a) :: st) :=
  fun ls H locs h hP hD hS => lv_icmp_lt C.1 C.2.1 hd ht (fun e => k1 ((zI_lt ha hb).mp e) ls H locs h hP hD hS) (fun e => k2 (fun f => e ((zI_lt ha hb).mpr f)) ls H locs h hP hD hS)
theorem j_if_lt (C : jC k cc nL own tys rm) {a : Int} {off : Int} {tgt : Nat} (hd : decode cc pc = .ok (.ifCond .lt off, 3)) (ht : (pc : Int) + off = (tgt : Int)) (ha : -2147483648 ≤ a ∧ a < 2147483648) (k1 : a < 0 → JJ k cs sl ws tgt lv st) (k2 : ¬ a < 0 → JJ k cs sl ws (pc + 3) lv st) : JJ k cs sl ws pc lv (.int (zI a) :: st) :=
  have hz : -2147483648 ≤ (0 : Int) ∧ (0 : Int) < 2147483648 := by omega
  fun ls H locs h hP hD hS => lv_if_lt C.1 C.2.1 hd ht (fun e => k1 (by rw [zI_0] at e; exact (zI_lt ha hz).mp e) ls H locs h hP hD hS) (fun e => k2 (fun f => e (by rw [zI_0]; exact (zI_lt ha hz).mpr f)) ls H locs h hP hD hS)
theorem j_icmp_ge (C : jC k cc nL own tys rm) {a b : Int} {off : Int} {tgt : Nat} (hd : decode cc pc = .ok (.if_icmp .ge off, 3)) (ht : (pc : Int) + off = (tgt : Int)) (ha : -2147483648 ≤ a ∧ a < 2147483648) (hb : -2147483648 ≤ b ∧ b < 2147483648) (k1 : b ≤ a → JJ k cs sl ws tgt lv st) (k2 : ¬ b ≤ a → JJ k cs sl ws (pc + 3) lv st) : JJ k cs sl ws pc lv (.int (zI b) :: .int (zI a) :: st) :=
  fun ls H locs h hP hD hS => lv_icmp_ge C.1 C.2.1 hd ht (fun e => k1 ((zI_le hb ha).mp e) ls H locs h hP hD hS) (fun e => k2 (fun f => e ((zI_le hb ha).mpr f)) ls H locs h hP hD hS)
theorem j_if_ge (C : jC k cc nL own tys rm) {a : Int} {off : Int} {tgt : Nat} (hd : decode cc pc = .ok (.ifCond .ge off, 3)) (ht : (pc : Int) + off = (tgt : Int)) (ha : -2147483648 ≤ a ∧ a < 2147483648) (k1 : 0 ≤ a → JJ k cs sl ws tgt lv st) (k2 : ¬ 0 ≤ a → JJ k cs sl ws (pc + 3) lv st) : JJ k cs sl ws pc lv (.int (zI a) :: st) :=
  have hz : -2147483648 ≤ (0 : Int) ∧ (0 : Int) < 2147483648 := by omega
  fun ls H locs h hP hD hS => lv_if_ge C.1 C.2.1 hd ht (fun e => k1 (by rw [zI_0] at e; exact (zI_le hz ha).mp e) ls H locs h hP hD hS) (fun e => k2 (fun f => e (by rw [zI_0]; exact (zI_le hz ha).mpr f)) ls H locs h hP hD hS)
theorem j_icmp_gt (C : jC k cc nL own tys rm) {a b : Int} {off : Int} {tgt : Nat} (hd : decode cc pc = .ok (.if_icmp .gt off, 3)) (ht : (pc : Int) + off = (tgt : Int)) (ha : -2147483648 ≤ a ∧ a < 2147483648) (hb : -2147483648 ≤ b ∧ b < 2147483648) (k1 : b < a → JJ k cs sl ws tgt lv st) (k2 : ¬ b < a → JJ k cs sl ws (pc + 3) lv st) : JJ k cs sl ws pc lv (.int (zI b) :: .int (zI a) :: st) :=
  fun ls H locs h hP hD hS => lv_icmp_gt C.1 C.2.1 hd ht (fun e => k1 ((zI_lt hb ha).mp e) ls H locs h hP hD hS) (fun e => k2 (fun f => e ((zI_lt hb ha).mpr f)) ls H locs h hP hD hS)
theorem j_if_gt (C : jC k cc nL own tys rm) {a : Int} {off : Int} {tgt : Nat} (hd : decode cc pc = .ok (.ifCond .gt off, 3)) (ht : (pc : Int) + off = (tgt : Int)) (ha : -2147483648 ≤ a ∧ a < 2147483648) (k1 : 0 < a → JJ k cs sl ws tgt lv st) (k2 : ¬ 0 < a → JJ k cs sl ws (pc + 3) lv st) : JJ k cs sl ws pc lv (.int (zI a) :: st) :=
  have hz : -2147483648 ≤ (0 : Int) ∧ (0 : Int) < 2147483648 := by omega
  fun ls H locs h hP hD hS => lv_if_gt C.1 C.2.1 hd ht (fun e => k1 (by rw [zI_0] at e; exact (zI_lt hz ha).mp e) ls H locs h hP hD hS) (fun e => k2 (fun f => e (by rw [zI_0]; exact (zI_lt hz ha).mpr f)) ls H locs h hP hD hS)
theorem j_icmp_le (C : jC k cc nL own tys rm) {a b : Int} {off : Int} {tgt : Nat} (hd : decode cc pc = .ok (.if_icmp .le off, 3)) (ht : (pc : Int) + off = (tgt : Int)) (ha : -2147483648 ≤ a ∧ a < 2147483648) (hb : -2147483648 ≤ b ∧ b < 2147483648) (k1 : a ≤ b → JJ k cs sl ws tgt lv st) (k2 : ¬ a ≤ b → JJ k cs sl ws (pc + 3) lv st) : JJ k cs sl ws pc lv (.int (zI b) :: .int (zI a) :: st) :=
  fun ls H locs h hP hD hS => lv_icmp_le C.1 C.2.1 hd ht (fun e => k1 ((zI_le ha hb).mp e) ls H locs h hP hD hS) (fun e => k2 (fun f => e ((zI_le ha hb).mpr f)) ls H locs h hP hD hS)
theorem j_if_le (C : jC k cc nL own tys rm) {a : Int} {off : Int} {tgt : Nat} (hd : decode cc pc = .ok (.ifCond .le off, 3)) (ht : (pc : Int) + off = (tgt : Int)) (ha : -2147483648 ≤ a ∧ a < 2147483648) (k1 : a ≤ 0 → JJ k cs sl ws tgt lv st) (k2 : ¬ a ≤ 0 → JJ k cs sl ws (pc + 3) lv st) : JJ k cs sl ws pc lv (.int (zI a) :: st) :=
  have hz : -2147483648 ≤ (0 : Int) ∧ (0 : Int) < 2147483648 := by omega
  fun ls H locs h hP hD hS => lv_if_le C.1 C.2.1 hd ht (fun e => k1 (by rw [zI_0] at e; exact (zI_le ha hz).mp e) ls H locs h hP hD hS) (fun e => k2 (fun f => e (by rw [zI_0]; exact (zI_le ha hz).mpr f)) ls H locs h hP hD hS)
/-- a field of one of the claim's classes -/
theorem j_get (C : jC k cc nL own tys rm) {ref Cn : String} {T : u_T} {N ci idx : Nat} (hin : ∀ w ∈ u_ws Cn T N, w ∈ lw_all) (q0 : Nat) {a : Nat} {fs : List Value} (he : ws[q0]? = some (a, .inr (ci, fs))) (hc : vwCl[ci]? = some (Cn, T, N)) (f : Nat) (hf : f < N) (hlink : Cond.fieldLink own idx ref (T f).2.1 (T f).2.2.1 ∈ lw_all) (hsame : ref = (T f).1) {v : Value} (hv : fs[f]? = some v) (hd : decode cc pc = .ok (.getfield idx, 3)) (kk : JJ k cs sl ws (pc + 3) lv (v :: st)) : JJ k cs sl ws pc lv (.ref a :: st) :=
  fun ls H locs h hP hD hS => va_get C.1 C.2.1 C.2.2.2.2.1 hin C.2.2.2.1 C.2.2.2.2.2.1 hP q0 he hc f hf (C.2.2.2.2.1 _ hlink) (fun x hx => by rw [hsame]; exact hx) hv hd (kk ls H locs h hP hD hS)
theorem j_put (C : jC k cc nL own tys rm) {ref Cn : String} {T : u_T} {N ci idx : Nat} (hin : ∀ w ∈ u_ws Cn T N, w ∈ lw_all) (ty0 : Nat → FieldType) (hty : ∀ k, k < N → parseFieldDescriptor (T k).2.2.1 = some (ty0 k)) (hnm : ∀ a, a < N → ∀ b, b < N → a ≠ b → (T a).2.1 ≠ (T b).2.1) (q0 : Nat) {a : Nat} {fs : List Value} (he : ws[q0]? = some (a, .inr (ci, fs))) (hc : vwCl[ci]? = some (Cn, T, N)) (f : Nat) (hf : f < N) (hlink : Cond.fieldLink own idx ref (T f).2.1 (T f).2.2.1 ∈ lw_all) (hsame : ref = (T f).1) (hfin : (T f).2.2.2 = false) {v : Value} (hn : narrow (ty0 f) v = v) (hfit : fits (ty0 f) v = true) (hl : f < fs.length) (hd : decode cc pc = .ok (.putfield idx, 3)) {ws' : va_W} (hw : ws.set q0 (a, .inr (ci, fs.set f v)) = ws') (kk : JJ k cs sl ws' (pc + 3) lv st) : JJ k cs sl ws pc lv (v :: .ref a :: st) := by
  subst hw
  exact fun ls H locs h hP hD hS => va_put C.1 C.2.1 C.2.2.2.2.1 hin ty0 hty hnm C.2.2.2.1 C.2.2.2.2.2.1 hP hD hS q0 he hc f hf (C.2.2.2.2.1 _ hlink) (fun x hx => by rw [hsame]; exact hx) hfin (hty f hf) hn hfit hl hd (fun H1 locs1 hP1 hD1 hS1 => kk ls H1 locs1 h hP1 hD1 hS1)
/-- arrays of ints: load, store -/
theorem j_ald (C : jC k cc nL own tys rm) (q0 : Nat) {a : Nat} {cA : ClassId} {N : Nat} {f : Nat → Int} (ha : ws[q0]? = some (a, .inl (cA, N, .inl (zF f)))) (ht : tys[0]? = some (cA, .int)) {i v : Int} (n : Nat) (hi : i = n) (hn : n < N) (hN : N < 2147483648) (hv : f n = v) (hd : decode cc pc = .ok (.iaload, 1)) (kk : JJ k cs sl ws (pc + 1) lv (.int (zI v) :: st)) : JJ k cs sl ws pc lv (.int (zI i) :: .ref a :: st) :=
  fun ls H locs h hP hD hS => va_iald C.1 C.2.1 C.2.2.2.2.2.1 hP q0 0 ha ht (zI_in hi hn hN) hd (by rw [zI_cl hi (by omega), show zF f n = zI v from by rw [← hv]; rfl]; exact kk ls H locs h hP hD hS)
theorem j_ast (C : jC k cc nL own tys rm) (q0 : Nat) {a : Nat} {cA : ClassId} {N : Nat} {f : Nat → Int} (ha : ws[q0]? = some (a, .inl (cA, N, .inl (zF f)))) (ht : tys[0]? = some (cA, .int)) {i v : Int} (n : Nat) (hi : i = n) (hn : n < N) (hN : N < 2147483648) (hd : decode cc pc = .ok (.iastore, 1)) {ws' : va_W} (hw : ws.set q0 (a, .inl (cA, N, .inl (zF (zU f n v)))) = ws') (kk : JJ k cs sl ws' (pc + 1) lv st) : JJ k cs sl ws pc lv (.int (zI v) :: .int (zI i) :: .ref a :: st) := by
  subst hw
  refine fun ls H locs h hP hD hS => va_iast C.1 C.2.1 C.2.2.2.2.2.1 hP hD hS q0 0 ha ht (zI_in hi hn hN) hd (fun H1 locs1 hP1 hD1 hS1 => ?_)
  rw [zF_up f v hi (by omega)] at hP1 hD1
  exact kk ls H1 locs1 h hP1 hD1 hS1
/-- arrays of booleans: load, store of 0 or 1 -/
theorem j_zald (C : jC k cc nL own tys rm) (q0 : Nat) {a : Nat} {cA : ClassId} {N : Nat} {f : Nat → Int} (ha : ws[q0]? = some (a, .inl (cA, N, .inl (zF f)))) (ht : tys[1]? = some (cA, .boolean)) {i v : Int} (n : Nat) (hi : i = n) (hn : n < N) (hN : N < 2147483648) (hv : f n = v) (hd : decode cc pc = .ok (.baload, 1)) (kk : JJ k cs sl ws (pc + 1) lv (.int (zI v) :: st)) : JJ k cs sl ws pc lv (.int (zI i) :: .ref a :: st) :=
  fun ls H locs h hP hD hS => va_zald C.1 C.2.1 C.2.2.2.2.2.1 hP q0 1 ha ht (zI_in hi hn hN) hd (by rw [zI_cl hi (by omega), show zF f n = zI v from by rw [← hv]; rfl]; exact kk ls H locs h hP hD hS)
theorem j_zast (C : jC k cc nL own tys rm) (q0 : Nat) {a : Nat} {cA : ClassId} {N : Nat} {f : Nat → Int} (ha : ws[q0]? = some (a, .inl (cA, N, .inl (zF f)))) (ht : tys[1]? = some (cA, .boolean)) {i v : Int} (n : Nat) (hi : i = n) (hn : n < N) (hN : N < 2147483648) (hv : vp_nar .boolean (zI v) = zI v) (hd : decode cc pc = .ok (.bastore, 1)) {ws' : va_W} (hw : ws.set q0 (a, .inl (cA, N, .inl (zF (zU f n v)))) = ws') (kk : JJ k cs sl ws' (pc + 1) lv st) : JJ k cs sl ws pc lv (.int (zI v) :: .int (zI i) :: .ref a :: st) := by
  subst hw
  refine fun ls H locs h hP hD hS => va_zast C.1 C.2.1 C.2.2.2.2.2.1 hP hD hS q0 1 ha ht (zI_in hi hn hN) hd (fun H1 locs1 hP1 hD1 hS1 => ?_)
  rw [hv, zF_up f v hi (by omega)] at hP1 hD1
  exact kk ls H1 locs1 h hP1 hD1 hS1
end JRows
/-! CONTRACTS over a whole world: start and end -/
def jPre (D : va_G) (tys : List (ClassId × FieldType)) (av : List Value) (ws : va_W) (sz : Nat) : Array Value → State → Prop :=
  va_Pc av (fun U => U.heap.size = sz ∧ va_P D vwCl ws U.heap ∧ va_K D vwCl tys U ∧ va_D (fun _ => True) ws)
def jB (D : va_G) (tys : List (ClassId × FieldType)) (A : Nat → Prop) (u : va_W) (t : State) : Prop := va_P D vwCl u t.heap ∧ va_K D vwCl tys t ∧ va_D A u
/-- a method that answers an int (or a boolean), makes no cell, works in the world ws -/
def MI (l : Launch) (y : MethodName) (cc : ByteArray) (nL : Nat) (rt : FieldType) (rm : Room) (D : va_G) (tys : List (ClassId × FieldType)) (av : List Value) (ws : va_W) (post : Int → va_W → Prop) : Prop :=
  ∀ sz : Nat, Met l y (ws_ y cc nL (some rt)) rm (jPre D tys av ws sz) (va_Qi (fun (r : Int32) (u : va_W) => ∃ v : Int, r = zI v ∧ post v u) (jB D tys (va_A ws sz)) (va_A ws sz)) 0 0 (va_A ws sz)
/-- the same for a method that answers nothing -/
def MV (l : Launch) (y : MethodName) (cc : ByteArray) (nL : Nat) (rm : Room) (D : va_G) (tys : List (ClassId × FieldType)) (av : List Value) (ws : va_W) (post : va_W → Prop) : Prop :=
  ∀ sz : Nat, Met l y (ws_ y cc nL none) rm (jPre D tys av ws sz) (va_Qv (fun (u : va_W) => post u) (jB D tys (va_A ws sz)) (va_A ws sz)) 0 0 (va_A ws sz)
theorem mi_of {l : Launch} {y : MethodName} {cc : ByteArray} {nL : Nat} {rt : FieldType} {rm : Room} {D : va_G} {tys : List (ClassId × FieldType)} {av : List Value} {ws : va_W} {post : Int → va_W → Prop} (own : String) (hyo : y.cls = own) (hy : plainName y.cls = true) (hn : (lg_sl av).length ≤ nL)
    (h : ∀ k : JK, kl k = l → kD k = D → jC k cc nL own tys rm → jI k cc rt post → JJ k 0 0 ws 0 (lv_args 0 av) []) : MI l y cc nL rt rm D tys av ws post := by
  intro sz
  refine Met.ofW (cc := cc) (maxL := nL) (ret := some rt) hy rfl ?_
  intro p e s m args below meth c s₁ B hml hv
  obtain ⟨rfl, hsz, hP, hK, hD0⟩ := hv
  have hts := atoms_spec (ws := ws_ y cc nL (some rt)) B.pre
  have hts : ∀ w ∈ lw_all, w.before _ s = true := fun w h => hts w (List.mem_cons_of_mem _ h)
  have hown : s.vm.findClass own = some m.cls := by rw [← hyo]; exact findClass_of_methodNamed B.named
  have hlocks := B.notSynchronized
  subst hsz
  have hD := hD0.self (sz := s.heap.size)
  have hl := lv_entry av (n := nL) hn
  rw [lg_entry_eq]
  refine h (p, l, e, (headSpec (ws_ y cc nL (some rt)) rm).room, s, m, av.toArray, below, meth, c, MQ below (va_Qi (fun (r : Int32) (u : va_W) => ∃ v : Int, r = zI v ∧ post v u) (jB D tys (va_A ws s.heap.size)) (va_A ws s.heap.size)) av.toArray s 0 0 (va_A ws s.heap.size), nL, D, va_A ws s.heap.size) rfl rfl ⟨B.exec, B.bytes, hml, hown, hts, hK, fun q h => Or.inr h, rfl, rfl⟩ ?_ _ _ _ hl hP hD va_S.rf
  intro pc ls v u H locs hd hn hp hP hD hS
  exact W.zret (v := zI v) B.exec B.bytes B.returns hn (fun t ht hW => ⟨⟨zI v, u, rfl, ⟨v, rfl, hp⟩, by rw [ht]; exact hP, va_K.moved hW.alike hK, hD⟩, hS.F ht⟩) hS.2.2 hd
theorem mv_of {l : Launch} {y : MethodName} {cc : ByteArray} {nL : Nat} {rm : Room} {D : va_G} {tys : List (ClassId × FieldType)} {av : List Value} {ws : va_W} {post : va_W → Prop} (own : String) (hyo : y.cls = own) (hy : plainName y.cls = true) (hn : (lg_sl av).length ≤ nL)
    (h : ∀ k : JK, kl k = l → kD k = D → jC k cc nL own tys rm → jV k cc post → JJ k 0 0 ws 0 (lv_args 0 av) []) : MV l y cc nL rm D tys av ws post := by
  intro sz
  refine Met.ofW (cc := cc) (maxL := nL) (ret := none) hy rfl ?_
  intro p e s m args below meth c s₁ B hml hv
  obtain ⟨rfl, hsz, hP, hK, hD0⟩ := hv
  have hts := atoms_spec (ws := ws_ y cc nL none) B.pre
  have hts : ∀ w ∈ lw_all, w.before _ s = true := fun w h => hts w (List.mem_cons_of_mem _ h)
  have hown : s.vm.findClass own = some m.cls := by rw [← hyo]; exact findClass_of_methodNamed B.named
  have hlocks := B.notSynchronized
  subst hsz
  have hD := hD0.self (sz := s.heap.size)
  have hl := lv_entry av (n := nL) hn
  rw [lg_entry_eq]
  refine h (p, l, e, (headSpec (ws_ y cc nL none) rm).room, s, m, av.toArray, below, meth, c, MQ below (va_Qv (fun (u : va_W) => post u) (jB D tys (va_A ws s.heap.size)) (va_A ws s.heap.size)) av.toArray s 0 0 (va_A ws s.heap.size), nL, D, va_A ws s.heap.size) rfl rfl ⟨B.exec, B.bytes, hml, hown, hts, hK, fun q h => Or.inr h, rfl, rfl⟩ ?_ _ _ _ hl hP hD va_S.rf
  intro pc ls u H locs hd hp hP hD hS
  exact W.vret B.exec B.bytes B.returns (fun t ht hW => ⟨⟨u, rfl, hp, by rw [ht]; exact hP, va_K.moved hW.alike hK, hD⟩, hS.F ht⟩) hS.2.2 hd
theorem jPre_blind {D : va_G} {tys : List (ClassId × FieldType)} {av : List Value} {ws : va_W} {sz : Nat} : FrameBlind (jPre D tys av ws sz) :=
  fun a U g mk q => by obtain ⟨q0, q1, qP, qK, qD⟩ := q; exact ⟨q0, q1, qP, va_K.moved (u := U) (U := U.calling g mk a) (Vm.Alike.refl U.vm) qK, qD⟩
section JCalls
variable {k : JK} {cc : ByteArray} {nL : Nat} {own : String} {tys : List (ClassId × FieldType)} {rm : Room} {cs sl pc : Nat} {ws : va_W} {lv : List (Nat × Value)} {st : List Value}
/-- a call of a method through the object, in the caller's whole world -/
theorem j_calli (C : jC k cc nL own tys rm) {y : MethodName} {cc' : ByteArray} {nL' : Nat} {rt : FieldType} {rm' : Room} {b : Nat} {As rest : List Value} {post : Int → va_W → Prop} {idx n : Nat} {Cn : String} {T : u_T} {N ci : Nat} {fs : List Value}
    (hM : MI (kl k) y cc' nL' rt rm' (kD k) tys (.ref b :: As) ws post)
    (h1 : Cond.methodLink own idx y ∈ lw_all) (h2 : Cond.instanceMethod y ∈ lw_all) (h3 : Cond.selects Cn y y ∈ lw_all) (h4 : Cond.initialized Cn ∈ lw_all) (h5 : Cond.code y cc' nL' (some rt) ∈ lw_all)
    (hdn : y.cls = Cn ∧ y.cls ≠ "java/lang/invoke/MethodHandle" ∧ y.cls ≠ "java/lang/invoke/VarHandle" ∧ (parseMethodDescriptor y.desc).map (fun d => d.parameters.length) = some n)
    (hc : vwCl[ci]? = some (Cn, T, N)) (he : ws[0]? = some (b, .inr (ci, fs)))
    (hR : (rm'.frames + 1 ≤ rm.frames ∧ 8 + (nL' + 11) + rm'.locals ≤ rm.locals) ∧ (rm'.cells = 0 ∧ rm'.slots = 0) ∧ (cs ≤ rm.cells ∧ sl ≤ rm.slots)) (hnA : As.length = n) (hst : st = As.reverse ++ .ref b :: rest) (hcat : (rest.map fun v => v.category).sum ≤ 8)
    (hd : decode cc pc = .ok (.invokevirtual idx, 3)) (kk : ∀ (v : Int) (u : va_W), post v u → JJ k cs sl u (pc + 3) lv (.int (zI v) :: rest)) : JJ k cs sl ws pc lv st := by
  obtain ⟨hx, hb, hml, hown, hts, hK, hA, hn, hr⟩ := C
  subst hst
  intro ls H locs hl hP hD hS
  have hFc : ∀ q, va_A ws H.size q → kA k q := by
    intro q h
    rcases h with ⟨j, e, h⟩ | h
    · exact hD.2 j (q, e) h
    · exact hA q (Nat.le_trans hS.1 h)
  refine va_calli (va_runV (As := As) (rest := rest) ⟨hx, hb, hml, hown, hts⟩ (hM H.size) (cwV n hts (lw_V h1 h2 h3 h4 h5) rfl hR.2.1.1 hR.2.1.2 hdn (by rw [hr]; exact hR.1)) ⟨jPre_blind, va_recv hK hP hc he, fun U hU hW => ⟨rfl, by rw [hU], by rw [hU]; exact hP, va_K.moved hW.alike hK, hD.weaken (fun _ _ _ _ => trivial)⟩⟩ rfl hnA (hl.1.trans hn) rfl (lv_room hcat) hd (by rw [hr]; exact hR.2.2)) hS (fun q _ h => hFc q h) hFc (fun r u t H1 locs1 ht hvm hp hB hz1 hk1 hS1 => ?_)
  obtain ⟨v, rfl, hp⟩ := hp
  obtain ⟨hP1, -, hD1⟩ := hB
  rw [ht] at hP1
  exact kk v u hp ls H1 locs1 hl hP1 (hD1.weaken (fun _ q _ h => hFc q.1 h)) hS1
theorem j_callv (C : jC k cc nL own tys rm) {y : MethodName} {cc' : ByteArray} {nL' : Nat} {rm' : Room} {b : Nat} {As rest : List Value} {post : va_W → Prop} {idx n : Nat} {Cn : String} {T : u_T} {N ci : Nat} {fs : List Value}
    (hM : MV (kl k) y cc' nL' rm' (kD k) tys (.ref b :: As) ws post)
    (h1 : Cond.methodLink own idx y ∈ lw_all) (h2 : Cond.instanceMethod y ∈ lw_all) (h3 : Cond.selects Cn y y ∈ lw_all) (h4 : Cond.initialized Cn ∈ lw_all) (h5 : Cond.code y cc' nL' none ∈ lw_all)
    (hdn : y.cls = Cn ∧ y.cls ≠ "java/lang/invoke/MethodHandle" ∧ y.cls ≠ "java/lang/invoke/VarHandle" ∧ (parseMethodDescriptor y.desc).map (fun d => d.parameters.length) = some n)
    (hc : vwCl[ci]? = some (Cn, T, N)) (he : ws[0]? = some (b, .inr (ci, fs)))
    (hR : (rm'.frames + 1 ≤ rm.frames ∧ 8 + (nL' + 11) + rm'.locals ≤ rm.locals) ∧ (rm'.cells = 0 ∧ rm'.slots = 0) ∧ (cs ≤ rm.cells ∧ sl ≤ rm.slots)) (hnA : As.length = n) (hst : st = As.reverse ++ .ref b :: rest) (hcat : (rest.map fun v => v.category).sum ≤ 8)
    (hd : decode cc pc = .ok (.invokevirtual idx, 3)) (kk : ∀ (u : va_W), post u → JJ k cs sl u (pc + 3) lv rest) : JJ k cs sl ws pc lv st := by
  obtain ⟨hx, hb, hml, hown, hts, hK, hA, hn, hr⟩ := C
  subst hst
  intro ls H locs hl hP hD hS
  have hFc : ∀ q, va_A ws H.size q → kA k q := by
    intro q h
    rcases h with ⟨j, e, h⟩ | h
    · exact hD.2 j (q, e) h
    · exact hA q (Nat.le_trans hS.1 h)
  refine va_callv (va_runV (As := As) (rest := rest) ⟨hx, hb, hml, hown, hts⟩ (hM H.size) (cwV n hts (lw_V h1 h2 h3 h4 h5) rfl hR.2.1.1 hR.2.1.2 hdn (by rw [hr]; exact hR.1)) ⟨jPre_blind, va_recv hK hP hc he, fun U hU hW => ⟨rfl, by rw [hU], by rw [hU]; exact hP, va_K.moved hW.alike hK, hD.weaken (fun _ _ _ _ => trivial)⟩⟩ rfl hnA (hl.1.trans hn) rfl (lv_room hcat) hd (by rw [hr]; exact hR.2.2)) hS (fun q _ h => hFc q h) hFc (fun u t H1 locs1 ht hvm hp hB hz1 hk1 hS1 => ?_)
  obtain ⟨hP1, -, hD1⟩ := hB
  rw [ht] at hP1
  exact kk u hp ls H1 locs1 hl hP1 (hD1.weaken (fun _ q _ h => hFc q.1 h)) hS1
end JCalls
/-- the room of a method that calls n deep -/
abbrev rmd (n : Nat) : Room := { frames := n, cells := 0, slots := 0, locals := 30 * n }
/-- the world of a BatchAdmission: its object, its eight arrays -/
abbrev xw (d : ClassId) (a : Nat → Nat) (mc : Nat) (dl fr kn be : Int) (R L F O Lf At E P : Nat → Int) : va_W :=
  [(a 0, .inr (0, [.int (zI mc), .int (zI dl), .ref (a 1), .ref (a 2), .ref (a 3), .int (zI fr), .ref (a 4), .ref (a 5), .ref (a 6), .ref (a 7), .int (zI kn), .int (zI be), .ref (a 8)])), (a 1, .inl (d, 3, .inl (zF R))), (a 2, .inl (d, 9, .inl (zF L))), (a 3, .inl (d, 9, .inl (zF F))), (a 4, .inl (d, 9, .inl (zF O))), (a 5, .inl (d, 10, .inl (zF Lf))), (a 6, .inl (d, 10, .inl (zF At))), (a 7, .inl (d, 3, .inl (zF E))), (a 8, .inl (d, 8, .inl (zF P)))]
/-- the world of a BatchAdmissionModel: its object, its five arrays -/
abbrev yw (d dz : ClassId) (a : Nat → Nat) (mc : Nat) (dl : Int) (R Hd L G E : Nat → Int) : va_W :=
  [(a 0, .inr (1, [.int (zI mc), .int (zI dl), .ref (a 1), .ref (a 2), .ref (a 3), .ref (a 4), .ref (a 5)])), (a 1, .inl (d, 3, .inl (zF R))), (a 2, .inl (dz, 8, .inl (zF Hd))), (a 3, .inl (d, 8, .inl (zF L))), (a 4, .inl (d, 8, .inl (zF G))), (a 5, .inl (d, 3, .inl (zF E)))]
end
section
/-! THE PLAIN LAWS: sums, loads, what fits, the search's meaning, the order, the chosen plan (no program in sight) -/
def sm (f : Nat → Int) : Nat → Int
  | 0 => 0
  | n + 1 => sm f n + f n
theorem sm_s (f : Nat → Int) (n : Nat) : sm f (n + 1) = sm f n + f n := rfl
theorem sm_0 (f : Nat → Int) : sm f 0 = 0 := rfl
theorem sm_congr {f g : Nat → Int} : ∀ {n : Nat}, (∀ i, i < n → f i = g i) → sm f n = sm g n
  | 0, _ => rfl
  | n + 1, h => by
    rw [sm_s, sm_s, sm_congr (fun i hi => h i (by omega)), h n (by omega)]
theorem sm_add (f g : Nat → Int) : ∀ n : Nat, sm (fun i => f i + g i) n = sm f n + sm g n
  | 0 => rfl
  | n + 1 => by
    rw [sm_s, sm_s, sm_s, sm_add f g n]
    omega
theorem sm_le {f g : Nat → Int} : ∀ {n : Nat}, (∀ i, i < n → f i ≤ g i) → sm f n ≤ sm g n
  | 0, _ => Int.le_refl 0
  | n + 1, h => by
    have h1 := sm_le (n := n) (fun i hi => h i (by omega))
    have h2 := h n (by omega)
    rw [sm_s, sm_s]
    omega
theorem sm_nn {f : Nat → Int} : ∀ {n : Nat}, (∀ i, i < n → 0 ≤ f i) → 0 ≤ sm f n
  | 0, _ => Int.le_refl 0
  | n + 1, h => by
    have h1 := sm_nn (n := n) (fun i hi => h i (by omega))
    have h2 := h n (by omega)
    rw [sm_s]
    omega
theorem sm_ub {f : Nat → Int} {b : Int} : ∀ {n : Nat}, (∀ i, i < n → f i ≤ b) → sm f n ≤ n * b
  | 0, _ => by rw [sm_0]; simp
  | n + 1, h => by
    have h1 := sm_ub (n := n) (fun i hi => h i (by omega))
    have h2 := h n (by omega)
    have h3 : ((n + 1 : Nat) : Int) * b = n * b + b := by rw [Int.natCast_add, Int.add_mul]; simp
    rw [sm_s, h3]
    omega
theorem sm_z : ∀ n : Nat, sm (fun _ => 0) n = 0
  | 0 => rfl
  | n + 1 => by rw [sm_s, sm_z n]; rfl
/-- one term is at most the sum -/
theorem sm_one {f : Nat → Int} {n j : Nat} (h : ∀ i, i < n → 0 ≤ f i) (hj : j < n) : f j ≤ sm f n := by
  induction n with
  | zero => omega
  | succ n ih =>
    rw [sm_s]
    have h0 := sm_nn (n := n) (fun i hi => h i (by omega))
    have h1 := h n (by omega)
    by_cases e : j = n
    · subst e; omega
    · have := ih (fun i hi => h i (by omega)) (by omega)
      omega
theorem sm_upd {lim : Int} {E : Nat → Int} {m : Nat} {v : Int} : ∀ {n : Nat}, m < n → sm (fun i => lim - zU E m v i) n = sm (fun i => lim - E i) n - (v - E m)
  | 0, h => by omega
  | n + 1, h => by
    rw [sm_s, sm_s]
    by_cases e : m = n
    · subst e
      rw [sm_congr (f := fun i => lim - zU E m v i) (g := fun i => lim - E i) (fun i hi => by show lim - zU E m v i = lim - E i; rw [zU_n (by omega)])]
      show _ + (lim - zU E m v m) = _
      rw [zU_s]
      omega
    · rw [sm_upd (n := n) (by omega)]
      show _ + (lim - zU E m v n) = _
      rw [zU_n (by omega)]
      omega
/-- the load of a machine under a plan -/
def ld (R ℓ g : Nat → Int) (m n : Nat) : Int := R m + sm (fun j => if g j = (m : Int) then ℓ j else 0) n
/-- some plan of the nine places, with the fixed jobs on their machines, ends by lim -/
def Fits (mc : Nat) (R ℓ F : Nat → Int) (lim : Int) : Prop :=
  ∃ g : Nat → Int, (∀ j, j < 9 → 0 < ℓ j → (0 ≤ g j ∧ g j < mc) ∧ (0 ≤ F j → g j = F j)) ∧ ∀ m, m < mc → ld R ℓ g m 9 ≤ lim
theorem fits_mono {mc : Nat} {R ℓ F : Nat → Int} {a b : Int} (h : Fits mc R ℓ F a) (hab : a ≤ b) : Fits mc R ℓ F b := by
  obtain ⟨g, h1, h2⟩ := h
  exact ⟨g, h1, fun m hm => Int.le_trans (h2 m hm) hab⟩
/-- the search: k jobs left from place d on, of sizes s, over the ends E -/
def Can (mc : Nat) (lim : Int) (s : Nat → Int) : Nat → (Nat → Int) → Nat → Prop
  | 0, E, _ => ∀ m, m < mc → E m ≤ lim
  | k + 1, E, d => ∃ m, m < mc ∧ Can mc lim s k (zU E m (E m + s d)) (d + 1)
def seg (f : Nat → Int) : Nat → Nat → Int
  | _, 0 => 0
  | d, k + 1 => f d + seg f (d + 1) k
theorem seg_sm (f : Nat → Int) : ∀ (k d : Nat), seg f d k = sm f (d + k) - sm f d
  | 0, d => by show (0 : Int) = _; simp
  | k + 1, d => by
    show f d + seg f (d + 1) k = _
    rw [seg_sm f k (d + 1), show d + 1 + k = d + (k + 1) from by omega, sm_s f d]
    omega
theorem seg_congr {f g : Nat → Int} : ∀ (k d : Nat), (∀ i, d ≤ i → f i = g i) → seg f d k = seg g d k
  | 0, _, _ => rfl
  | k + 1, d, h => by
    show f d + seg f (d + 1) k = g d + seg g (d + 1) k
    rw [h d (Nat.le_refl d), seg_congr k (d + 1) (fun i hi => h i (by omega))]
theorem can_le {mc : Nat} {lim : Int} {s : Nat → Int} : ∀ {k : Nat} {E : Nat → Int} {d : Nat}, Can mc lim s k E d → (∀ i, 0 ≤ s i) → ∀ m, m < mc → E m ≤ lim
  | 0, _, _, h, _ => h
  | k + 1, E, d, h, hs => by
    obtain ⟨m0, hm0, hc⟩ := h
    have h1 := can_le hc hs
    intro m hm
    have h2 := h1 m hm
    by_cases e : m = m0
    · subst e
      rw [zU_s] at h2
      have := hs d
      omega
    · rwa [zU_n e] at h2
theorem can_sum {mc : Nat} {lim : Int} {s : Nat → Int} : ∀ {k : Nat} {E : Nat → Int} {d : Nat}, Can mc lim s k E d → seg s d k ≤ sm (fun m => lim - E m) mc
  | 0, E, d, h => by
    show (0 : Int) ≤ _
    exact sm_nn (fun i hi => by have := h i hi; show 0 ≤ lim - E i; omega)
  | k + 1, E, d, h => by
    obtain ⟨m0, hm0, hc⟩ := h
    have h1 := can_sum hc
    rw [sm_upd hm0] at h1
    show s d + seg s (d + 1) k ≤ _
    omega
/-- two machines changed for one another -/
def sw (o m i : Nat) : Nat := if i = o then m else if i = m then o else i
theorem sw_sw (o m i : Nat) : sw o m (sw o m i) = i := by
  unfold sw
  by_cases h1 : i = o
  · subst h1
    by_cases h2 : m = i
    · simp [h2]
    · simp [h2]
  · by_cases h2 : i = m
    · subst h2; simp [h1]
    · simp [h1, h2]
theorem sw_lt {o m i n : Nat} (ho : o < n) (hm : m < n) (hi : i < n) : sw o m i < n := by
  unfold sw
  split
  · exact hm
  · split
    · exact ho
    · exact hi
theorem can_swap {mc : Nat} {lim : Int} {s : Nat → Int} {o m : Nat} (ho : o < mc) (hm : m < mc) : ∀ {k : Nat} {E : Nat → Int} {d : Nat}, Can mc lim s k E d → Can mc lim s k (fun i => E (sw o m i)) d
  | 0, E, d, h => fun i hi => h _ (sw_lt ho hm hi)
  | k + 1, E, d, h => by
    obtain ⟨m0, hm0, hc⟩ := h
    have h1 := can_swap ho hm hc
    refine ⟨sw o m m0, sw_lt ho hm hm0, ?_⟩
    have e : (fun i => zU E m0 (E m0 + s d) (sw o m i)) = zU (fun i => E (sw o m i)) (sw o m m0) ((fun i => E (sw o m i)) (sw o m m0) + s d) := by
      funext i
      by_cases hi : i = sw o m m0
      · subst hi
        rw [zU_s]
        show zU E m0 (E m0 + s d) (sw o m (sw o m m0)) = E (sw o m (sw o m m0)) + s d
        rw [sw_sw, zU_s]
      · rw [zU_n hi]
        rw [zU_n]
        intro h
        apply hi
        rw [← h, sw_sw]
    rw [← e]
    exact h1
theorem can_sym {mc : Nat} {lim : Int} {s : Nat → Int} {k : Nat} {E : Nat → Int} {d o m : Nat} {v : Int} (ho : o < mc) (hm : m < mc) (he : E o = E m) (h : Can mc lim s k (zU E m (E m + v)) d) : Can mc lim s k (zU E o (E o + v)) d := by
  have hw := can_swap ho hm h
  have e : (fun i => zU E m (E m + v) (sw o m i)) = zU E o (E o + v) := by
    funext i
    unfold sw
    by_cases p1 : i = o
    · subst p1
      rw [if_pos rfl, zU_s, zU_s, he]
    · rw [if_neg p1, zU_n p1]
      by_cases p2 : i = m
      · subst p2
        rw [if_pos rfl, zU_n (fun q => p1 q.symm), he]
      · rw [if_neg p2, zU_n p2]
  rw [← e]
  exact hw
/-- which machine the search tries -/
def Good (E : Nat → Int) (sz lim : Int) (m : Nat) : Prop := E m + sz ≤ lim ∧ ∀ o, o < m → E o ≠ E m
theorem next_no {mc : Nat} {lim : Int} {s : Nat → Int} {k : Nat} {E : Nat → Int} {d fr m1 : Nat} (hs : ∀ i, 0 ≤ s i) (hm1 : m1 ≤ mc) (h0 : ∀ m, m < fr → ¬ Can mc lim s k (zU E m (E m + s d)) (d + 1)) (h1 : ∀ m, fr ≤ m → m < m1 → ¬ Good E (s d) lim m) : ∀ m, m < m1 → ¬ Can mc lim s k (zU E m (E m + s d)) (d + 1) := by
  intro m
  induction m using Nat.strongRecOn with
  | ind m ih =>
    intro hm hc
    by_cases hf : m < fr
    · exact h0 m hf hc
    · refine h1 m (by omega) hm ⟨?_, fun o ho he => ?_⟩
      · have := can_le hc hs m (by omega)
        rwa [zU_s] at this
      · exact ih o ho (by omega) (can_sym (by omega) (by omega) he hc)
theorem can_iff {mc : Nat} {lim : Int} {s : Nat → Int} : ∀ {k : Nat} {E : Nat → Int} {d : Nat}, Can mc lim s k E d ↔ ∃ h : Nat → Int, (∀ i, d ≤ i → i < d + k → 0 ≤ h i ∧ h i < mc) ∧ ∀ m, m < mc → E m + seg (fun i => if h i = (m : Int) then s i else 0) d k ≤ lim
  | 0, E, d => by
    constructor
    · intro h
      exact ⟨fun _ => 0, fun i h1 h2 => by omega, fun m hm => by show E m + 0 ≤ lim; have := h m hm; omega⟩
    · rintro ⟨h, -, h2⟩ m hm
      have h3 : E m + 0 ≤ lim := h2 m hm
      omega
  | k + 1, E, d => by
    constructor
    · rintro ⟨m0, hm0, hc⟩
      obtain ⟨h, h1, h2⟩ := can_iff.mp hc
      refine ⟨zU h d m0, fun i hi1 hi2 => ?_, fun m hm => ?_⟩
      · by_cases e : i = d
        · subst e; rw [zU_s]; omega
        · rw [zU_n e]; exact h1 i (by omega) (by omega)
      · have h3 := h2 m hm
        show E m + ((if zU h d m0 d = (m : Int) then s d else 0) + seg (fun i => if zU h d m0 i = (m : Int) then s i else 0) (d + 1) k) ≤ lim
        rw [zU_s, seg_congr (f := fun i => if zU h d m0 i = (m : Int) then s i else 0) (g := fun i => if h i = (m : Int) then s i else 0) k (d + 1) (fun i hi => by show (if zU h d m0 i = (m : Int) then s i else 0) = _; rw [zU_n (by omega)])]
        by_cases e : m = m0
        · subst e
          rw [zU_s] at h3
          rw [if_pos rfl]
          omega
        · rw [zU_n e] at h3
          rw [if_neg (by omega)]
          omega
    · rintro ⟨h, h1, h2⟩
      have hd := h1 d (Nat.le_refl d) (by omega)
      refine ⟨(h d).toNat, by omega, can_iff.mpr ⟨h, fun i hi1 hi2 => h1 i (by omega) (by omega), fun m hm => ?_⟩⟩
      have h3 : E m + ((if h d = (m : Int) then s d else 0) + seg (fun i => if h i = (m : Int) then s i else 0) (d + 1) k) ≤ lim := h2 m hm
      by_cases e : m = (h d).toNat
      · subst e
        rw [zU_s]
        rw [if_pos (by omega)] at h3
        omega
      · rw [zU_n e]
        rw [if_neg (by omega)] at h3
        omega
/-- the order lists the free jobs below j, each once -/
def Ord (ℓ F O : Nat → Int) (n j : Nat) : Prop :=
  (∀ i, i < n → (0 ≤ O i ∧ O i < j) ∧ 0 < ℓ (O i).toNat ∧ F (O i).toNat < 0) ∧ (∀ i i', i < n → i' < n → O i = O i' → i = i') ∧
  (∀ z, z < j → 0 < ℓ z → F z < 0 → ∃ i, i < n ∧ O i = (z : Int)) ∧
  ∀ f : Nat → Int, sm (fun i => f (O i).toNat) n = sm (fun z => if 0 < ℓ z ∧ F z < 0 then f z else 0) j
theorem ord_0 {ℓ F O : Nat → Int} : Ord ℓ F O 0 0 := ⟨fun i h => by omega, fun i i' h => by omega, fun z h => by omega, fun f => rfl⟩
theorem ord_skip {ℓ F O : Nat → Int} {n j : Nat} (h : Ord ℓ F O n j) (hj : ¬ (0 < ℓ j ∧ F j < 0)) : Ord ℓ F O n (j + 1) := by
  obtain ⟨h1, h2, h3, h4⟩ := h
  refine ⟨fun i hi => ?_, h2, fun z hz a b => ?_, fun f => ?_⟩
  · have := h1 i hi
    refine ⟨⟨this.1.1, by omega⟩, this.2⟩
  · by_cases e : z = j
    · subst e; exact absurd ⟨a, b⟩ hj
    · exact h3 z (by omega) a b
  · rw [h4 f, sm_s, if_neg hj]
    omega
theorem sm_ins {f : Nat → Int} {O O' : Nat → Int} {k : Nat} {j : Int} (a1 : ∀ i, i < k → O' i = O i) (a2 : O' k = j) : ∀ t : Nat, (∀ i, k < i → i ≤ k + t → O' i = O (i - 1)) → sm (fun i => f (O' i).toNat) (k + t + 1) = sm (fun i => f (O i).toNat) (k + t) + f j.toNat
  | 0, _ => by
    show sm (fun i => f (O' i).toNat) k + f (O' k).toNat = sm (fun i => f (O i).toNat) k + f j.toNat
    rw [a2, sm_congr (f := fun i => f (O' i).toNat) (g := fun i => f (O i).toNat) (fun i hi => by show f (O' i).toNat = f (O i).toNat; rw [a1 i hi])]
  | t + 1, h => by
    show sm (fun i => f (O' i).toNat) (k + t + 1) + f (O' (k + t + 1)).toNat = sm (fun i => f (O i).toNat) (k + t) + f (O (k + t)).toNat + f j.toNat
    rw [sm_ins a1 a2 t (fun i h1 h2 => h i h1 (by omega)), h (k + t + 1) (by omega) (by omega), show k + t + 1 - 1 = k + t from by omega]
    omega
theorem ord_ins {ℓ F O O' : Nat → Int} {n j : Nat} (h : Ord ℓ F O n j) (hl : 0 < ℓ j) (hf : F j < 0) {k : Nat} (hk : k ≤ n) (a1 : ∀ i, i < k → O' i = O i) (a2 : O' k = (j : Int)) (a3 : ∀ i, k < i → i ≤ n → O' i = O (i - 1)) : Ord ℓ F O' (n + 1) (j + 1) := by
  obtain ⟨h1, h2, h3, h4⟩ := h
  have key : ∀ i, i < n + 1 → (i = k ∧ O' i = (j : Int)) ∨ ∃ i0, i0 < n ∧ O' i = O i0 ∧ ((i < k ∧ i0 = i) ∨ (k < i ∧ i0 = i - 1)) := by
    intro i hi
    by_cases e1 : i < k
    · exact Or.inr ⟨i, by omega, a1 i e1, Or.inl ⟨e1, rfl⟩⟩
    · by_cases e2 : i = k
      · exact Or.inl ⟨e2, by rw [e2]; exact a2⟩
      · exact Or.inr ⟨i - 1, by omega, a3 i (by omega) (by omega), Or.inr ⟨by omega, rfl⟩⟩
  refine ⟨fun i hi => ?_, fun i i' hi hi' he => ?_, fun z hz a b => ?_, fun f => ?_⟩
  · rcases key i hi with ⟨-, e⟩ | ⟨i0, h0, e, -⟩
    · rw [e]
      refine ⟨by omega, ?_⟩
      rw [Int.toNat_natCast]
      exact ⟨hl, hf⟩
    · rw [e]
      have := h1 i0 h0
      exact ⟨⟨this.1.1, by omega⟩, this.2⟩
  · rcases key i hi with ⟨e1, e⟩ | ⟨i0, h0, e, c⟩ <;> rcases key i' hi' with ⟨e1', e'⟩ | ⟨i0', h0', e', c'⟩
    · omega
    · have := (h1 i0' h0').1
      rw [e, e'] at he
      omega
    · have := (h1 i0 h0).1
      rw [e, e'] at he
      omega
    · rw [e, e'] at he
      have := h2 i0 i0' h0 h0' he
      omega
  · by_cases e : z = j
    · subst e
      exact ⟨k, by omega, a2⟩
    · obtain ⟨i, hi, ho⟩ := h3 z (by omega) a b
      by_cases e1 : i < k
      · exact ⟨i, by omega, by rw [a1 i e1]; exact ho⟩
      · exact ⟨i + 1, by omega, by rw [a3 (i + 1) (by omega) (by omega), Nat.add_sub_cancel]; exact ho⟩
  · have e := sm_ins (f := f) a1 a2 (n - k) (fun i b1 b2 => a3 i b1 (by omega))
    rw [show k + (n - k) = n from by omega] at e
    rw [e, h4 f, sm_s, if_pos ⟨hl, hf⟩, Int.toNat_natCast]
theorem sm_cnt : ∀ n : Nat, sm (fun _ => 1) n = (n : Int)
  | 0 => rfl
  | n + 1 => by rw [sm_s, sm_cnt n]; omega
theorem ord_le {ℓ F O : Nat → Int} {n j : Nat} (h : Ord ℓ F O n j) : n ≤ j := by
  have h1 := h.2.2.2 (fun _ => 1)
  have h2 : sm (fun z => if 0 < ℓ z ∧ F z < 0 then (1 : Int) else 0) j ≤ sm (fun _ => 1) j := sm_le (fun i _ => by split <;> omega)
  have h3 : sm (fun i => (fun _ => (1 : Int)) (O i).toNat) n = sm (fun _ => 1) n := rfl
  rw [h3, sm_cnt] at h1
  rw [sm_cnt] at h2
  omega
/-- the ends that ready times and fixed jobs below j make -/
def Fix (mc : Nat) (R ℓ F E : Nat → Int) (j : Nat) : Prop := ∀ m, m < mc → E m = R m + sm (fun z => if (0 < ℓ z ∧ 0 ≤ F z) ∧ F z = (m : Int) then ℓ z else 0) j
theorem fits_can {mc : Nat} {R ℓ F O E : Nat → Int} {n : Nat} {lim : Int} (ho : Ord ℓ F O n 9) (he : Fix mc R ℓ F E 9) (hF : ∀ j, j < 9 → 0 < ℓ j → F j < mc) (hl : ∀ j, j < 9 → 0 ≤ ℓ j) :
    Fits mc R ℓ F lim ↔ Can mc lim (fun i => ℓ (O i).toNat) n E 0 := by
  obtain ⟨h1, h2, h3, h4⟩ := ho
  have split : ∀ (g : Nat → Int) (m : Nat), (∀ j, j < 9 → 0 < ℓ j → 0 ≤ F j → g j = F j) → sm (fun z => if (0 < ℓ z ∧ 0 ≤ F z) ∧ F z = (m : Int) then ℓ z else 0) 9 + sm (fun z => if 0 < ℓ z ∧ F z < 0 then (if g z = (m : Int) then ℓ z else 0) else 0) 9 = sm (fun j => if g j = (m : Int) then ℓ j else 0) 9 := by
    intro g m hg
    rw [← sm_add]
    refine sm_congr (fun i hi => ?_)
    have hli := hl i hi
    show (if (0 < ℓ i ∧ 0 ≤ F i) ∧ F i = (m : Int) then ℓ i else 0) + (if 0 < ℓ i ∧ F i < 0 then (if g i = (m : Int) then ℓ i else 0) else 0) = if g i = (m : Int) then ℓ i else 0
    by_cases p1 : 0 < ℓ i
    · by_cases p2 : 0 ≤ F i
      · rw [hg i hi p1 p2, if_neg (c := 0 < ℓ i ∧ F i < 0) (by omega)]
        by_cases p3 : F i = (m : Int)
        · rw [if_pos ⟨⟨p1, p2⟩, p3⟩, if_pos p3]; omega
        · rw [if_neg (fun q => p3 q.2), if_neg p3]; omega
      · rw [if_neg (fun q => p2 q.1.2), if_pos ⟨p1, by omega⟩]; omega
    · have hz : ℓ i = 0 := by omega
      rw [if_neg (fun q => p1 q.1.1), if_neg (c := 0 < ℓ i ∧ F i < 0) (fun q => p1 q.1), hz]
      split <;> rfl
  rw [can_iff]
  constructor
  · rintro ⟨g, g1, g2⟩
    refine ⟨fun i => g (O i).toNat, fun i _ hi => ?_, fun m hm => ?_⟩
    · have a := h1 i (by omega)
      exact (g1 (O i).toNat (by omega) a.2.1).1
    · have e := h4 (fun z => if g z = (m : Int) then ℓ z else 0)
      rw [seg_sm, sm_0, Nat.zero_add]
      have g3 := g2 m hm
      unfold ld at g3
      rw [← split g m (fun j hj p1 p2 => (g1 j hj p1).2 p2)] at g3
      rw [he m hm]
      have e2 : sm (fun i => if (fun i => g (O i).toNat) i = (m : Int) then (fun i => ℓ (O i).toNat) i else 0) n = sm (fun i => (fun z => if g z = (m : Int) then ℓ z else 0) (O i).toNat) n := rfl
      rw [e2, e]
      omega
  · rintro ⟨h, b1, b2⟩
    have hg : ∃ g : Nat → Int, (∀ j, j < 9 → 0 < ℓ j → (0 ≤ g j ∧ g j < mc) ∧ (0 ≤ F j → g j = F j)) ∧ ∀ i, i < n → g (O i).toNat = h i := by
      refine ⟨fun z => if 0 ≤ F z then F z else if q : ∃ i, i < n ∧ O i = (z : Int) then h (Classical.choose q) else 0, fun j hj p1 => ?_, fun i hi => ?_⟩
      · show (0 ≤ (if 0 ≤ F j then F j else if q : ∃ i, i < n ∧ O i = (j : Int) then h (Classical.choose q) else 0) ∧ (if 0 ≤ F j then F j else if q : ∃ i, i < n ∧ O i = (j : Int) then h (Classical.choose q) else 0) < mc) ∧ (0 ≤ F j → (if 0 ≤ F j then F j else if q : ∃ i, i < n ∧ O i = (j : Int) then h (Classical.choose q) else 0) = F j)
        by_cases p2 : 0 ≤ F j
        · rw [if_pos p2]
          exact ⟨⟨p2, hF j hj p1⟩, fun _ => rfl⟩
        · rw [if_neg p2, dif_pos (h3 j hj p1 (by omega))]
          have c := Classical.choose_spec (h3 j hj p1 (by omega))
          exact ⟨b1 _ (by omega) (by omega), fun q => absurd q p2⟩
      · have a := h1 i hi
        have q : ∃ i', i' < n ∧ O i' = ((O i).toNat : Int) := ⟨i, hi, by omega⟩
        show (if 0 ≤ F (O i).toNat then F (O i).toNat else if q : ∃ i', i' < n ∧ O i' = ((O i).toNat : Int) then h (Classical.choose q) else 0) = h i
        rw [if_neg (by omega), dif_pos q]
        have c := Classical.choose_spec q
        rw [h2 _ i c.1 hi (by omega)]
    obtain ⟨g, g1, g2⟩ := hg
    refine ⟨g, g1, fun m hm => ?_⟩
    have b3 := b2 m hm
    rw [seg_sm, sm_0, Nat.zero_add] at b3
    have e := h4 (fun z => if g z = (m : Int) then ℓ z else 0)
    have e2 : sm (fun i => if h i = (m : Int) then (fun i => ℓ (O i).toNat) i else 0) n = sm (fun i => (fun z => if g z = (m : Int) then ℓ z else 0) (O i).toNat) n := by
      refine sm_congr (fun i hi => ?_)
      show (if h i = (m : Int) then ℓ (O i).toNat else 0) = if g (O i).toNat = (m : Int) then ℓ (O i).toNat else 0
      rw [g2 i hi]
    rw [e2, e, he m hm] at b3
    unfold ld
    rw [← split g m (fun j hj p1 p2 => (g1 j hj p1).2 p2)]
    omega
end
section
/-! PLANS of the eight job numbers: the chosen one, its uniqueness; how the class comes to it; how the model's numbers come to it; the room for one more -/
def Val (mc : Nat) (ℓ g : Nat → Int) : Prop := ∀ j, j < 8 → 0 < ℓ j → 0 ≤ g j ∧ g j < mc
def Ends (mc : Nat) (R ℓ g : Nat → Int) (lim : Int) : Prop := ∀ m, m < mc → ld R ℓ g m 8 ≤ lim
/-- b is the least end, P the plan with it that comes first -/
def Chosen (mc : Nat) (R ℓ : Nat → Int) (b : Int) (P : Nat → Int) : Prop :=
  Val mc ℓ P ∧ Ends mc R ℓ P b ∧ (∀ (g : Nat → Int) (lim : Int), Val mc ℓ g → Ends mc R ℓ g lim → b ≤ lim) ∧
  ∀ g : Nat → Int, Val mc ℓ g → Ends mc R ℓ g b → ∀ j, j < 8 → 0 < ℓ j → (∀ i, i < j → 0 < ℓ i → g i = P i) → P j ≤ g j
theorem chosen_uniq {mc : Nat} {R ℓ P P' : Nat → Int} {b b' : Int} (h : Chosen mc R ℓ b P) (h' : Chosen mc R ℓ b' P') : b = b' ∧ ∀ j, j < 8 → 0 < ℓ j → P j = P' j := by
  have e : b = b' := Int.le_antisymm (h.2.2.1 P' b' h'.1 h'.2.1) (h'.2.2.1 P b h.1 h.2.1)
  subst e
  refine ⟨rfl, fun j => ?_⟩
  induction j using Nat.strongRecOn with
  | ind j ih =>
    intro hj hl
    exact Int.le_antisymm (h.2.2.2 P' h'.1 h'.2.1 j hj hl (fun i hi hli => (ih i hi (by omega) hli).symm)) (h'.2.2.2 P h.1 h.2.1 j hj hl (fun i hi hli => ih i hi (by omega) hli))
theorem ld_congr {R ℓ g g' : Nat → Int} {m n : Nat} (hl : ∀ j, j < n → 0 ≤ ℓ j) (h : ∀ j, j < n → 0 < ℓ j → g j = g' j) : ld R ℓ g m n = ld R ℓ g' m n := by
  unfold ld
  rw [sm_congr (f := fun j => if g j = (m : Int) then ℓ j else 0) (g := fun j => if g' j = (m : Int) then ℓ j else 0)]
  intro i hi
  show (if g i = (m : Int) then ℓ i else 0) = if g' i = (m : Int) then ℓ i else 0
  have h0 := hl i hi
  by_cases p : 0 < ℓ i
  · rw [h i hi p]
  · have hz : ℓ i = 0 := by omega
    rw [hz]
    split <;> split <;> rfl
theorem ld_9 {R ℓ g : Nat → Int} {m : Nat} (h8 : ℓ 8 = 0) : ld R ℓ g m 9 = ld R ℓ g m 8 := by
  unfold ld
  rw [sm_s]
  show R m + (_ + (if g 8 = (m : Int) then ℓ 8 else 0)) = _
  rw [h8]
  split <;> omega
theorem fits_congr {mc : Nat} {R ℓ F F' : Nat → Int} {lim : Int} (hF : ∀ j, j < 9 → 0 < ℓ j → F j = F' j) (h : Fits mc R ℓ F lim) : Fits mc R ℓ F' lim := by
  obtain ⟨g, h1, h2⟩ := h
  refine ⟨g, fun j hj hl => ⟨(h1 j hj hl).1, fun q => ?_⟩, h2⟩
  rw [← hF j hj hl] at q ⊢
  exact (h1 j hj hl).2 q
/-- how far the class has fixed its plan -/
def Prog (mc : Nat) (R ℓ : Nat → Int) (b : Int) (F : Nat → Int) (j : Nat) : Prop :=
  Fits mc R ℓ F b ∧ (∀ z, z < 9 → (j ≤ z ∨ ¬ 0 < ℓ z) → F z = -1) ∧ (∀ z, z < j → 0 < ℓ z → 0 ≤ F z ∧ F z < mc) ∧
  ∀ g : Nat → Int, Val mc ℓ g → Ends mc R ℓ g b → ∀ i, i < j → 0 < ℓ i → (∀ i', i' < i → 0 < ℓ i' → g i' = F i') → F i ≤ g i
theorem prog_0 {mc : Nat} {R ℓ F : Nat → Int} {b : Int} (h : Fits mc R ℓ F b) (hF : ∀ z, z < 9 → F z = -1) : Prog mc R ℓ b F 0 :=
  ⟨h, fun z hz _ => hF z hz, fun z hz => by omega, fun g _ _ i hi => by omega⟩
theorem prog_skip {mc : Nat} {R ℓ F : Nat → Int} {b : Int} {j : Nat} (h : Prog mc R ℓ b F j) (hj : ¬ 0 < ℓ j) : Prog mc R ℓ b F (j + 1) := by
  obtain ⟨h1, h2, h3, h4⟩ := h
  refine ⟨h1, fun z hz q => h2 z hz ?_, fun z hz hl => ?_, fun g hv he i hi hl => ?_⟩
  · rcases q with q | q
    · exact Or.inl (by omega)
    · exact Or.inr q
  · by_cases e : z = j
    · subst e; exact absurd hl hj
    · exact h3 z (by omega) hl
  · by_cases e : i = j
    · subst e; exact absurd hl hj
    · exact h4 g hv he i (by omega) hl
theorem prog_ex {mc : Nat} {R ℓ F : Nat → Int} {b : Int} {j : Nat} (h : Prog mc R ℓ b F j) (hj : j < 8) (hl : 0 < ℓ j) : ∃ m, m < mc ∧ Fits mc R ℓ (zU F j (m : Nat)) b := by
  obtain ⟨g, h1, h2⟩ := h.1
  have hg := h1 j (by omega) hl
  refine ⟨(g j).toNat, by omega, g, fun z hz hlz => ⟨(h1 z hz hlz).1, fun q => ?_⟩, h2⟩
  by_cases e : z = j
  · subst e
    rw [zU_s]
    omega
  · rw [zU_n e] at q ⊢
    exact (h1 z hz hlz).2 q
theorem prog_fix {mc : Nat} {R ℓ F : Nat → Int} {b : Int} {j m : Nat} (h8 : ℓ 8 = 0) (h : Prog mc R ℓ b F j) (hj : j < 8) (hl : 0 < ℓ j) (hm : m < mc) (hf : Fits mc R ℓ (zU F j (m : Nat)) b) (hn : ∀ m', m' < m → ¬ Fits mc R ℓ (zU F j (m' : Nat)) b) : Prog mc R ℓ b (zU F j (m : Nat)) (j + 1) := by
  obtain ⟨h1, h2, h3, h4⟩ := h
  refine ⟨hf, fun z hz q => ?_, fun z hz hlz => ?_, fun g hv he i hi hli hag => ?_⟩
  · have e : z ≠ j := by
      rcases q with q | q
      · omega
      · intro e; subst e; exact q hl
    rw [zU_n e]
    refine h2 z hz ?_
    rcases q with q | q
    · exact Or.inl (by omega)
    · exact Or.inr q
  · by_cases e : z = j
    · subst e; rw [zU_s]; omega
    · rw [zU_n e]; exact h3 z (by omega) hlz
  · by_cases e : i = j
    · subst e
      rw [zU_s]
      rcases Int.lt_or_le (g i) (m : Int) with q | q
      · exfalso
        have hgi := hv i (by omega) hli
        refine hn (g i).toNat (by omega) ⟨g, fun z hz hlz => ?_, fun m1 hm1 => by rw [ld_9 h8]; exact he m1 hm1⟩
        have hz8 : z < 8 := by
          rcases Nat.lt_or_ge z 8 with q1 | q1
          · exact q1
          · have : z = 8 := by omega
            subst this
            omega
        refine ⟨hv z hz8 hlz, fun q2 => ?_⟩
        by_cases e2 : z = i
        · subst e2; rw [zU_s]; omega
        · rw [zU_n e2] at q2 ⊢
          by_cases e3 : z < i
          · have := hag z e3 hlz
            rwa [zU_n e2] at this
          · have := h2 z hz (Or.inl (by omega))
            omega
      · exact q
    · rw [zU_n e]
      refine h4 g hv he i (by omega) hli (fun i' hi' hli' => ?_)
      have := hag i' hi' hli'
      rwa [zU_n (by omega)] at this
theorem prog_end {mc : Nat} {R ℓ F P : Nat → Int} {b : Int} (h8 : ℓ 8 = 0) (hl : ∀ j, j < 9 → 0 ≤ ℓ j) (h : Prog mc R ℓ b F 8) (hP : ∀ z, z < 8 → 0 < ℓ z → P z = F z) (hb : ∀ lim, Fits mc R ℓ (fun _ => -1) lim → b ≤ lim) : Chosen mc R ℓ b P := by
  obtain ⟨⟨g, g1, g2⟩, h2, h3, h4⟩ := h
  refine ⟨fun j hj hlj => by rw [hP j hj hlj]; exact h3 j hj hlj, fun m hm => ?_, fun g lim hv he => ?_, fun g hv he j hj hlj hag => ?_⟩
  · have := g2 m hm
    rw [ld_9 h8] at this
    rw [ld_congr (g' := g) (fun j hj => hl j (by omega)) (fun j hj hlj => by rw [hP j hj hlj]; exact ((g1 j (by omega) hlj).2 (h3 j hj hlj).1).symm)]
    exact this
  · refine hb lim ⟨g, fun z hz hlz => ?_, fun m hm => by rw [ld_9 h8]; exact he m hm⟩
    have hz8 : z < 8 := by
      rcases Nat.lt_or_ge z 8 with q1 | q1
      · exact q1
      · have : z = 8 := by omega
        subst this
        omega
    exact ⟨hv z hz8 hlz, fun (q : (0 : Int) ≤ -1) => by omega⟩
  · rw [hP j hj hlj]
    exact h4 g hv he j hj hlj (fun i hi hli => by rw [← hP i (by omega) hli]; exact hag i hi hli)
/-! the model's numbers -/
def rs (mc : Nat) (ℓ : Nat → Int) (N : Nat) : Nat → Nat
  | 0 => N
  | i + 1 => if 0 < ℓ (7 - i) then rs mc ℓ N i / mc else rs mc ℓ N i
def dg (mc : Nat) (ℓ : Nat → Int) (N : Nat) (j : Nat) : Int := ((rs mc ℓ N (7 - j) % mc : Nat) : Int)
def num (mc : Nat) (ℓ g : Nat → Int) : Nat → Nat
  | 0 => 0
  | k + 1 => if 0 < ℓ k then num mc ℓ g k * mc + (g k).toNat else num mc ℓ g k
def cnt (ℓ : Nat → Int) : Nat → Nat
  | 0 => 0
  | k + 1 => if 0 < ℓ k then cnt ℓ k + 1 else cnt ℓ k
theorem cnt_le (ℓ : Nat → Int) : ∀ k, cnt ℓ k ≤ k
  | 0 => Nat.le_refl 0
  | k + 1 => by
    have := cnt_le ℓ k
    show (if 0 < ℓ k then cnt ℓ k + 1 else cnt ℓ k) ≤ k + 1
    split <;> omega
theorem num_lt {mc : Nat} {ℓ g : Nat → Int} : ∀ {k : Nat}, (∀ j, j < k → 0 < ℓ j → 0 ≤ g j ∧ g j < mc) → num mc ℓ g k < mc ^ cnt ℓ k
  | 0, _ => by show 0 < mc ^ 0; simp
  | k + 1, h => by
    have ih := num_lt (k := k) (fun j hj => h j (by omega))
    show (if 0 < ℓ k then num mc ℓ g k * mc + (g k).toNat else num mc ℓ g k) < mc ^ (if 0 < ℓ k then cnt ℓ k + 1 else cnt ℓ k)
    by_cases p : 0 < ℓ k
    · rw [if_pos p, if_pos p, Nat.pow_succ]
      have h1 := h k (by omega) p
      have h2 : (num mc ℓ g k + 1) * mc ≤ mc ^ cnt ℓ k * mc := Nat.mul_le_mul_right mc ih
      rw [Nat.add_mul] at h2
      omega
    · rw [if_neg p, if_neg p]
      exact ih
theorem num_rs {mc : Nat} {ℓ g : Nat → Int} (hmc : 0 < mc) (h : Val mc ℓ g) : ∀ i, i ≤ 8 → rs mc ℓ (num mc ℓ g 8) i = num mc ℓ g (8 - i)
  | 0, _ => rfl
  | i + 1, hi => by
    have ih := num_rs hmc h i (by omega)
    show (if 0 < ℓ (7 - i) then rs mc ℓ (num mc ℓ g 8) i / mc else rs mc ℓ (num mc ℓ g 8) i) = num mc ℓ g (8 - (i + 1))
    rw [ih, show 8 - i = (7 - i) + 1 from by omega, show 8 - (i + 1) = 7 - i from by omega]
    show (if 0 < ℓ (7 - i) then (if 0 < ℓ (7 - i) then num mc ℓ g (7 - i) * mc + (g (7 - i)).toNat else num mc ℓ g (7 - i)) / mc else (if 0 < ℓ (7 - i) then num mc ℓ g (7 - i) * mc + (g (7 - i)).toNat else num mc ℓ g (7 - i))) = _
    by_cases p : 0 < ℓ (7 - i)
    · rw [if_pos p, if_pos p]
      have h1 := h (7 - i) (by omega) p
      rw [Nat.add_comm, Nat.add_mul_div_right _ _ hmc, Nat.div_eq_of_lt (by omega), Nat.zero_add]
    · rw [if_neg p, if_neg p]
theorem dg_num {mc : Nat} {ℓ g : Nat → Int} (hmc : 0 < mc) (h : Val mc ℓ g) {j : Nat} (hj : j < 8) (hl : 0 < ℓ j) : dg mc ℓ (num mc ℓ g 8) j = g j := by
  unfold dg
  rw [num_rs hmc h (7 - j) (by omega), show 8 - (7 - j) = j + 1 from by omega]
  show (((if 0 < ℓ j then num mc ℓ g j * mc + (g j).toNat else num mc ℓ g j) % mc : Nat) : Int) = g j
  have h1 := h j hj hl
  rw [if_pos hl, Nat.add_comm, Nat.add_mul_mod_self_right, Nat.mod_eq_of_lt (by omega)]
  omega
theorem rs_lt {mc : Nat} {ℓ : Nat → Int} {N : Nat} (hN : N < mc ^ cnt ℓ 8) : ∀ i, i ≤ 8 → rs mc ℓ N i < mc ^ cnt ℓ (8 - i)
  | 0, _ => hN
  | i + 1, hi => by
    have ih := rs_lt hN i (by omega)
    rw [show 8 - i = (7 - i) + 1 from by omega] at ih
    have ih2 : rs mc ℓ N i < mc ^ (if 0 < ℓ (7 - i) then cnt ℓ (7 - i) + 1 else cnt ℓ (7 - i)) := ih
    rw [show 8 - (i + 1) = 7 - i from by omega]
    show (if 0 < ℓ (7 - i) then rs mc ℓ N i / mc else rs mc ℓ N i) < _
    by_cases p : 0 < ℓ (7 - i)
    · rw [if_pos p] at ih2 ⊢
      rw [Nat.pow_succ, Nat.mul_comm] at ih2
      exact Nat.div_lt_of_lt_mul ih2
    · rw [if_neg p] at ih2 ⊢
      exact ih2
theorem num_dg {mc : Nat} {ℓ : Nat → Int} {N : Nat} (hN : N < mc ^ cnt ℓ 8) : ∀ k, k ≤ 8 → num mc ℓ (dg mc ℓ N) k = rs mc ℓ N (8 - k)
  | 0, _ => by
    have h := rs_lt hN 8 (Nat.le_refl 8)
    rw [Nat.sub_self] at h
    have h2 : rs mc ℓ N 8 < mc ^ 0 := h
    rw [Nat.pow_zero] at h2
    show 0 = rs mc ℓ N 8
    omega
  | k + 1, hk => by
    have ih := num_dg hN k (by omega)
    rw [show 8 - k = (7 - k) + 1 from by omega] at ih
    have ih2 : num mc ℓ (dg mc ℓ N) k = if 0 < ℓ (7 - (7 - k)) then rs mc ℓ N (7 - k) / mc else rs mc ℓ N (7 - k) := ih
    rw [show 7 - (7 - k) = k from by omega] at ih2
    rw [show 8 - (k + 1) = 7 - k from by omega]
    show (if 0 < ℓ k then num mc ℓ (dg mc ℓ N) k * mc + (dg mc ℓ N k).toNat else num mc ℓ (dg mc ℓ N) k) = _
    by_cases p : 0 < ℓ k
    · rw [if_pos p] at ih2 ⊢
      rw [ih2]
      unfold dg
      rw [Int.toNat_natCast, Nat.mul_comm]
      exact Nat.div_add_mod _ _
    · rw [if_neg p] at ih2 ⊢
      exact ih2
theorem num_congr {mc : Nat} {ℓ g g' : Nat → Int} : ∀ {k : Nat}, (∀ j, j < k → 0 < ℓ j → g j = g' j) → num mc ℓ g k = num mc ℓ g' k
  | 0, _ => rfl
  | k + 1, h => by
    show (if 0 < ℓ k then num mc ℓ g k * mc + (g k).toNat else num mc ℓ g k) = if 0 < ℓ k then num mc ℓ g' k * mc + (g' k).toNat else num mc ℓ g' k
    rw [num_congr (k := k) (fun j hj => h j (by omega))]
    by_cases p : 0 < ℓ k
    · rw [h k (by omega) p]
    · rw [if_neg p, if_neg p]
theorem num_lex {mc : Nat} {ℓ g g' : Nat → Int} (h : Val mc ℓ g) (h' : Val mc ℓ g') {j : Nat} (hj : j < 8) (hl : 0 < ℓ j) (hag : ∀ i, i < j → 0 < ℓ i → g i = g' i) (hlt : g j < g' j) : ∀ t, j + 1 + t ≤ 8 → num mc ℓ g (j + 1 + t) < num mc ℓ g' (j + 1 + t)
  | 0, _ => by
    show (if 0 < ℓ j then num mc ℓ g j * mc + (g j).toNat else num mc ℓ g j) < if 0 < ℓ j then num mc ℓ g' j * mc + (g' j).toNat else num mc ℓ g' j
    rw [if_pos hl, if_pos hl, num_congr hag]
    have := h j hj hl
    omega
  | t + 1, ht => by
    have ih := num_lex h h' hj hl hag hlt t (by omega)
    show (if 0 < ℓ (j + 1 + t) then num mc ℓ g (j + 1 + t) * mc + (g (j + 1 + t)).toNat else num mc ℓ g (j + 1 + t)) < if 0 < ℓ (j + 1 + t) then num mc ℓ g' (j + 1 + t) * mc + (g' (j + 1 + t)).toNat else num mc ℓ g' (j + 1 + t)
    by_cases p : 0 < ℓ (j + 1 + t)
    · rw [if_pos p, if_pos p]
      have h1 := h (j + 1 + t) (by omega) p
      have h2 : (num mc ℓ g (j + 1 + t) + 1) * mc ≤ num mc ℓ g' (j + 1 + t) * mc := Nat.mul_le_mul_right mc ih
      rw [Nat.add_mul] at h2
      omega
    · rw [if_neg p, if_neg p]
      exact ih
theorem dg_val {mc : Nat} {ℓ : Nat → Int} {N : Nat} (hmc : 0 < mc) : Val mc ℓ (dg mc ℓ N) := by
  intro j _ _
  unfold dg
  have := Nat.mod_lt (rs mc ℓ N (7 - j)) hmc
  omega
theorem ends_congr {mc : Nat} {R ℓ g g' : Nat → Int} {lim : Int} (hl : ∀ j, j < 8 → 0 ≤ ℓ j) (h : ∀ j, j < 8 → 0 < ℓ j → g j = g' j) (he : Ends mc R ℓ g lim) : Ends mc R ℓ g' lim :=
  fun m hm => by rw [← ld_congr hl h]; exact he m hm
/-- the first number with the least end is the chosen plan -/
theorem chosen_of_num {mc : Nat} {R ℓ : Nat → Int} {b : Int} {N : Nat} (hmc : 0 < mc) (hl : ∀ j, j < 8 → 0 ≤ ℓ j) (hN : N < mc ^ cnt ℓ 8) (he : Ends mc R ℓ (dg mc ℓ N) b) (hb : ∀ M, M < mc ^ cnt ℓ 8 → ∀ lim, Ends mc R ℓ (dg mc ℓ M) lim → b ≤ lim) (hf : ∀ M, M < N → ¬ Ends mc R ℓ (dg mc ℓ M) b) : Chosen mc R ℓ b (dg mc ℓ N) := by
  refine ⟨dg_val hmc, he, fun g lim hv hg => ?_, fun g hv hg j hj hlj hag => ?_⟩
  · exact hb _ (num_lt hv) lim (ends_congr hl (fun j hj hlj => (dg_num hmc hv hj hlj).symm) hg)
  · rcases Int.lt_or_le (g j) (dg mc ℓ N j) with q | q
    · exfalso
      have h1 := num_lex hv (dg_val (N := N) hmc) hj hlj hag q (7 - j) (by omega)
      rw [show j + 1 + (7 - j) = 8 from by omega, num_dg hN 8 (Nat.le_refl 8)] at h1
      exact hf _ h1 (ends_congr hl (fun j hj hlj => (dg_num hmc hv hj hlj).symm) hg)
    · exact q
/-- v is the greatest of the ends -/
def IsMax (mc : Nat) (E : Nat → Int) (v : Int) : Prop := (∀ m, m < mc → E m ≤ v) ∧ ∃ m, m < mc ∧ E m = v
/-! room for one more -/
def Rm (mc : Nat) (R ℓ : Nat → Int) (dl r : Int) : Prop :=
  (0 ≤ r ∧ r ≤ 60) ∧ (1 ≤ r → Fits mc R (zU ℓ 8 r) (fun _ => -1) dl) ∧ ∀ v, r < v → v ≤ 60 → ¬ Fits mc R (zU ℓ 8 v) (fun _ => -1) dl
theorem ld_8 {R ℓ g : Nat → Int} {m : Nat} {v : Int} : ld R (zU ℓ 8 v) g m 9 = ld R ℓ g m 8 + (if g 8 = (m : Int) then v else 0) := by
  unfold ld
  rw [sm_s]
  show R m + (_ + (if g 8 = (m : Int) then zU ℓ 8 v 8 else 0)) = _
  rw [zU_s, sm_congr (f := fun j => if g j = (m : Int) then zU ℓ 8 v j else 0) (g := fun j => if g j = (m : Int) then ℓ j else 0) (n := 8) (fun i hi => by show (if g i = (m : Int) then zU ℓ 8 v i else 0) = _; rw [zU_n (by omega)])]
  omega
theorem fit9_iff {mc : Nat} {R ℓ : Nat → Int} {dl v : Int} (hv : 1 ≤ v) : Fits mc R (zU ℓ 8 v) (fun _ => -1) dl ↔ ∃ g : Nat → Int, Val mc ℓ g ∧ ∃ k, k < mc ∧ (∀ q, q < mc → q ≠ k → ld R ℓ g q 8 ≤ dl) ∧ ld R ℓ g k 8 + v ≤ dl := by
  constructor
  · rintro ⟨g, h1, h2⟩
    have h8 := (h1 8 (by omega) (by rw [zU_s]; omega)).1
    refine ⟨g, fun j hj hl => (h1 j (by omega) (by rw [zU_n (by omega)]; exact hl)).1, (g 8).toNat, by omega, fun q hq hne => ?_, ?_⟩
    · have := h2 q hq
      rw [ld_8, if_neg (by omega)] at this
      omega
    · have := h2 (g 8).toNat (by omega)
      rw [ld_8, if_pos (by omega)] at this
      exact this
  · rintro ⟨g, h1, k, hk, h2, h3⟩
    refine ⟨zU g 8 k, fun j hj hl => ⟨?_, fun (q : (0 : Int) ≤ -1) => by omega⟩, fun m hm => ?_⟩
    · by_cases e : j = 8
      · subst e; rw [zU_s]; omega
      · rw [zU_n e]; rw [zU_n e] at hl; exact h1 j (by omega) hl
    · have e1 : ld R ℓ (zU g 8 k) m 8 = ld R ℓ g m 8 := by
        unfold ld
        rw [sm_congr (f := fun j => if zU g 8 k j = (m : Int) then ℓ j else 0) (g := fun j => if g j = (m : Int) then ℓ j else 0) (fun i hi => by show (if zU g 8 k i = (m : Int) then ℓ i else 0) = _; rw [zU_n (by omega)])]
      rw [ld_8, zU_s, e1]
      by_cases e : m = k
      · subst e; rw [if_pos rfl]; exact h3
      · rw [if_neg (by omega)]
        have := h2 m hm e
        omega
theorem fit9_mono {mc : Nat} {R ℓ : Nat → Int} {dl a b : Int} (ha : 1 ≤ a) (hab : a ≤ b) (h : Fits mc R (zU ℓ 8 b) (fun _ => -1) dl) : Fits mc R (zU ℓ 8 a) (fun _ => -1) dl := by
  obtain ⟨g, hv, k, hk, h1, h2⟩ := (fit9_iff (by omega)).mp h
  exact (fit9_iff ha).mpr ⟨g, hv, k, hk, h1, by omega⟩
theorem rm_uniq {mc : Nat} {R ℓ : Nat → Int} {dl r r' : Int} (h : Rm mc R ℓ dl r) (h' : Rm mc R ℓ dl r') : r = r' := by
  obtain ⟨⟨a1, a2⟩, a3, a4⟩ := h
  obtain ⟨⟨b1, b2⟩, b3, b4⟩ := h'
  rcases Int.lt_or_le r r' with q | q
  · exact absurd (b3 (by omega)) (a4 r' q b2)
  · rcases Int.lt_or_le r' r with q2 | q2
    · exact absurd (a3 (by omega)) (b4 r q2 a2)
    · omega
theorem rm_iff {mc : Nat} {R ℓ : Nat → Int} {dl r v : Int} (h : Rm mc R ℓ dl r) (h1 : 1 ≤ v) (h2 : v ≤ 60) : v ≤ r ↔ Fits mc R (zU ℓ 8 v) (fun _ => -1) dl := by
  obtain ⟨⟨a1, a2⟩, a3, a4⟩ := h
  constructor
  · intro q
    exact fit9_mono h1 q (a3 (by omega))
  · intro q
    rcases Int.lt_or_le r v with q2 | q2
    · exact absurd q (a4 v q2 h2)
    · exact q2
end
section
/-! BatchAdmission: isHeld, freeNumber, freeAll, jobs, firstWithEnd, earliestMachine -/
set_option maxRecDepth 100000
section Leaves
variable {d : ClassId} {a : Nat → Nat} {mc : Nat} {dl fr kn be : Int} {R L F O Lf At E P : Nat → Int}
/-- isHeld(job): 1 if the number is one of 0..7 and its length is above 0 -/
theorem m_isHeld (l : Launch) (D : va_G) (j : Int) (hj : -2147483648 ≤ j ∧ j < 2147483648) (hL : ∀ i, i < 9 → 0 ≤ L i ∧ L i ≤ 60) : MI l yX1_isHeld cX1_isHeld 2 .boolean (rmd 0) D [(d, .int)] [.ref (a 0), .int (zI j)] (xw d a mc dl fr kn be R L F O Lf At E P) (fun v u => u = xw d a mc dl fr kn be R L F O Lf At E P ∧ ((v = 1 ∧ ∃ n : Nat, n < 8 ∧ j = n ∧ 0 < L n) ∨ (v = 0 ∧ ¬ ∃ n : Nat, n < 8 ∧ j = n ∧ 0 < L n))) := by
  refine mi_of RX1 rfl (by decide +kernel) (Nat.le_of_ble_eq_true rfl) (fun k hkl hkD C hret => ?_)
  show JJ k 0 0 (xw d a mc dl fr kn be R L F O Lf At E P) 0 [(0, .ref (a 0)), (1, .int (zI j))] []
  refine j_iload_n C dX1_isHeld_0 1 rfl ?_
  refine j_if_lt (tgt := 23) C dX1_isHeld_1 (by decide) (by omega) (fun h1 => ?_) (fun h1 => ?_)
  · refine j_iconst C dX1_isHeld_23 ?_
    exact j_ret hret dX1_isHeld_24 nz_0 (⟨rfl, Or.inr ⟨rfl, fun ⟨n, h2, h3, h4⟩ => by omega⟩⟩)
  · refine j_iload_n C dX1_isHeld_4 1 rfl ?_
    refine j_bipush C dX1_isHeld_5 (by decide +kernel) ?_
    refine j_icmp_gt (tgt := 23) C dX1_isHeld_7 (by decide) (by omega) (by omega) (fun h2 => ?_) (fun h2 => ?_)
    · refine j_iconst C dX1_isHeld_23 ?_
      exact j_ret hret dX1_isHeld_24 nz_0 (⟨rfl, Or.inr ⟨rfl, fun ⟨n, h2, h3, h4⟩ => by omega⟩⟩)
    · obtain ⟨n, hn⟩ : ∃ n : Nat, j = n := ⟨j.toNat, by omega⟩
      have hLn := hL n (by omega)
      refine j_aload_n C dX1_isHeld_10 0 rfl ?_
      refine j_get (ci := 0) (v := .ref (a 2)) C in_X1 0 rfl rfl 3 (by decide) q36 rfl rfl dX1_isHeld_11 ?_
      refine j_iload_n C dX1_isHeld_14 1 rfl ?_
      refine j_ald (f := L) (v := (L n)) C 2 rfl rfl n (by omega) (by omega) (by decide) rfl dX1_isHeld_15 ?_
      refine j_if_le (tgt := 23) C dX1_isHeld_16 (by decide) (by omega) (fun h3 => ?_) (fun h3 => ?_)
      · refine j_iconst C dX1_isHeld_23 ?_
        exact j_ret hret dX1_isHeld_24 nz_0 (⟨rfl, Or.inr ⟨rfl, fun ⟨n', h2, h3', h4⟩ => by rw [show n' = n from by omega] at h4; omega⟩⟩)
      · refine j_iconst C dX1_isHeld_19 ?_
        refine j_goto (tgt := 24) C dX1_isHeld_20 (by decide) ?_
        exact j_ret hret dX1_isHeld_24 nz_1 (⟨rfl, Or.inl ⟨rfl, n, by omega, hn, by omega⟩⟩)
theorem l_freeNumber {k : JK} {rm : Room} (C : jC k cX1_freeNumber 2 RX1 [(d, .int)] rm) (hL : ∀ i, i < 9 → 0 ≤ L i ∧ L i ≤ 60) (hret : jI k cX1_freeNumber .int (fun v u => u = xw d a mc dl fr kn be R L F O Lf At E P ∧ ((v = -1 ∧ ∀ i : Nat, i < 8 → L i ≠ 0) ∨ ∃ n : Nat, n < 8 ∧ v = n ∧ L n = 0 ∧ ∀ i : Nat, i < n → L i ≠ 0))) : ∀ (n j : Nat), j + n = 8 → (∀ i : Nat, i < j → L i ≠ 0) → JJ k 0 0 (xw d a mc dl fr kn be R L F O Lf At E P) 2 [(0, .ref (a 0)), (1, .int (zI ((j : Nat) : Int)))] [] := by
  intro n
  induction n with
  | zero =>
    intro j hj hi
    refine j_iload_n C dX1_freeNumber_2 1 rfl ?_
    refine j_bipush C dX1_freeNumber_3 (by decide +kernel) ?_
    refine j_icmp_ge (tgt := 25) C dX1_freeNumber_5 (by decide) (by omega) (by omega) (fun h1 => ?_) (fun h1 => ?_)
    · refine j_iconst C dX1_freeNumber_25 ?_
      exact j_ret hret dX1_freeNumber_26 rfl (⟨rfl, Or.inl ⟨rfl, fun i hh => hi i (by omega)⟩⟩)
    · exact absurd (show ((8 : Int)) ≤ (j : Int) by omega) h1
  | succ n ih =>
    intro j hj hi
    have hLj := hL j (by omega)
    refine j_iload_n C dX1_freeNumber_2 1 rfl ?_
    refine j_bipush C dX1_freeNumber_3 (by decide +kernel) ?_
    refine j_icmp_ge (tgt := 25) C dX1_freeNumber_5 (by decide) (by omega) (by omega) (fun h1 => ?_) (fun h1 => ?_)
    · omega
    · refine j_aload_n C dX1_freeNumber_8 0 rfl ?_
      refine j_get (ci := 0) (v := .ref (a 2)) C in_X1 0 rfl rfl 3 (by decide) q36 rfl rfl dX1_freeNumber_9 ?_
      refine j_iload_n C dX1_freeNumber_12 1 rfl ?_
      refine j_ald (f := L) (v := (L j)) C 2 rfl rfl j (by omega) (by omega) (by decide) rfl dX1_freeNumber_13 ?_
      refine j_if_ne (tgt := 19) C dX1_freeNumber_14 (by decide) (by omega) (fun h2 => ?_) (fun h2 => ?_)
      · refine j_iinc (lv' := [(0, .ref (a 0)), (1, .int (zI (((j + 1) : Nat) : Int)))]) C (((j + 1) : Nat) : Int) dX1_freeNumber_19 1 rfl (by omega) (by decide) rfl rfl ?_
        refine j_goto (tgt := 2) C dX1_freeNumber_22 (by decide) ?_
        exact ih (j + 1) (by omega) (fun i hh => by
          by_cases e : i = j
          · subst e; exact h2
          · exact hi i (by omega))
      · refine j_iload_n C dX1_freeNumber_17 1 rfl ?_
        exact j_ret hret dX1_freeNumber_18 rfl (⟨rfl, Or.inr ⟨j, by omega, rfl, h2, hi⟩⟩)
/-- freeNumber(): the first number whose length is 0, or -1 -/
theorem m_freeNumber (l : Launch) (D : va_G) (hL : ∀ i, i < 9 → 0 ≤ L i ∧ L i ≤ 60) : MI l yX1_freeNumber cX1_freeNumber 2 .int (rmd 0) D [(d, .int)] [.ref (a 0)] (xw d a mc dl fr kn be R L F O Lf At E P) (fun v u => u = xw d a mc dl fr kn be R L F O Lf At E P ∧ ((v = -1 ∧ ∀ i : Nat, i < 8 → L i ≠ 0) ∨ ∃ n : Nat, n < 8 ∧ v = n ∧ L n = 0 ∧ ∀ i : Nat, i < n → L i ≠ 0)) := by
  refine mi_of RX1 rfl (by decide +kernel) (Nat.le_of_ble_eq_true rfl) (fun k hkl hkD C hret => ?_)
  show JJ k 0 0 (xw d a mc dl fr kn be R L F O Lf At E P) 0 [(0, .ref (a 0))] []
  refine j_iconst C dX1_freeNumber_0 ?_
  refine j_istore_n (lv' := [(0, .ref (a 0)), (1, .int (zI 0))]) C dX1_freeNumber_1 (by decide) rfl rfl ?_
  exact l_freeNumber C hL hret 8 0 rfl (fun i hi => by omega)
theorem l_freeAll {k : JK} {rm : Room} (C : jC k cX1_freeAll 2 RX1 [(d, .int)] rm) (hret : jV k cX1_freeAll (fun u => ∃ F' : Nat → Int, u = xw d a mc dl fr kn be R L F' O Lf At E P ∧ ∀ i : Nat, i < 9 → F' i = -1)) : ∀ (n j : Nat) (F : Nat → Int), j + n = 9 → (∀ i : Nat, i < j → F i = -1) → JJ k 0 0 (xw d a mc dl fr kn be R L F O Lf At E P) 2 [(0, .ref (a 0)), (1, .int (zI ((j : Nat) : Int)))] [] := by
  intro n
  induction n with
  | zero =>
    intro j F hj hi
    refine j_iload_n C dX1_freeAll_2 1 rfl ?_
    refine j_bipush C dX1_freeAll_3 (by decide +kernel) ?_
    refine j_icmp_ge (tgt := 21) C dX1_freeAll_5 (by decide) (by omega) (by omega) (fun h1 => ?_) (fun h1 => ?_)
    · exact j_vret hret dX1_freeAll_21 (⟨F, rfl, fun i hh => hi i (by omega)⟩)
    · exact absurd (show ((9 : Int)) ≤ (j : Int) by omega) h1
  | succ n ih =>
    intro j F hj hi
    refine j_iload_n C dX1_freeAll_2 1 rfl ?_
    refine j_bipush C dX1_freeAll_3 (by decide +kernel) ?_
    refine j_icmp_ge (tgt := 21) C dX1_freeAll_5 (by decide) (by omega) (by omega) (fun h1 => ?_) (fun h1 => ?_)
    · omega
    · refine j_aload_n C dX1_freeAll_8 0 rfl ?_
      refine j_get (ci := 0) (v := .ref (a 3)) C in_X1 0 rfl rfl 4 (by decide) q37 rfl rfl dX1_freeAll_9 ?_
      refine j_iload_n C dX1_freeAll_12 1 rfl ?_
      refine j_iconst C dX1_freeAll_13 ?_
      refine j_ast (f := F) (ws' := (xw d a mc dl fr kn be R L (zU F j (-1)) O Lf At E P)) C 3 rfl rfl j (by omega) (by omega) (by decide) dX1_freeAll_14 rfl ?_
      refine j_iinc (lv' := [(0, .ref (a 0)), (1, .int (zI (((j + 1) : Nat) : Int)))]) C (((j + 1) : Nat) : Int) dX1_freeAll_15 1 rfl (by omega) (by decide) rfl rfl ?_
      refine j_goto (tgt := 2) C dX1_freeAll_18 (by decide) ?_
      exact ih (j + 1) _ (by omega) (fun i hh => by
        by_cases e : i = j
        · subst e; exact zU_s
        · rw [zU_n e]; exact hi i (by omega))
/-- freeAll(): every place of fixed is -1 -/
theorem m_freeAll (l : Launch) (D : va_G) : MV l yX1_freeAll cX1_freeAll 2 (rmd 0) D [(d, .int)] [.ref (a 0)] (xw d a mc dl fr kn be R L F O Lf At E P) (fun u => ∃ F' : Nat → Int, u = xw d a mc dl fr kn be R L F' O Lf At E P ∧ ∀ i : Nat, i < 9 → F' i = -1) := by
  refine mv_of RX1 rfl (by decide +kernel) (Nat.le_of_ble_eq_true rfl) (fun k hkl hkD C hret => ?_)
  show JJ k 0 0 (xw d a mc dl fr kn be R L F O Lf At E P) 0 [(0, .ref (a 0))] []
  refine j_iconst C dX1_freeAll_0 ?_
  refine j_istore_n (lv' := [(0, .ref (a 0)), (1, .int (zI 0))]) C dX1_freeAll_1 (by decide) rfl rfl ?_
  exact l_freeAll C hret 9 0 F rfl (fun i hi => by omega)
end Leaves
end
section
/-! BatchAdmission: jobs, firstWithEnd, nextMachine, roomFor, earliestMachine -/
set_option maxRecDepth 100000
section Leaves2
variable {d : ClassId} {a : Nat → Nat} {mc : Nat} {dl fr kn be : Int} {R L F O Lf At E P : Nat → Int}
theorem l_jobs {k : JK} {rm : Room} (C : jC k cX1_jobs 3 RX1 [(d, .int)] rm) (hL : ∀ i, i < 9 → 0 ≤ L i ∧ L i ≤ 60) (hret : jI k cX1_jobs .int (fun v u => u = xw d a mc dl fr kn be R L F O Lf At E P ∧ v = (cnt L 8 : Nat))) : ∀ (n j c : Nat), j ≤ 8 → 8 - j < n → c = cnt L j → JJ k 0 0 (xw d a mc dl fr kn be R L F O Lf At E P) 4 [(0, .ref (a 0)), (1, .int (zI ((c : Nat) : Int))), (2, .int (zI ((j : Nat) : Int)))] [] := by
  intro n
  induction n with
  | zero => intro j c h1 h2; omega
  | succ n ih =>
    intro j c hj hn hc
    refine j_iload_n C dX1_jobs_4 2 rfl ?_
    refine j_bipush C dX1_jobs_5 (by decide +kernel) ?_
    refine j_icmp_ge (tgt := 28) C dX1_jobs_7 (by decide) (by omega) (by omega) (fun h1 => ?_) (fun h1 => ?_)
    · refine j_iload_n C dX1_jobs_28 1 rfl ?_
      exact j_ret hret dX1_jobs_29 rfl (⟨rfl, by rw [hc, show j = 8 from by omega]⟩)
    · have hLj := hL j (by omega)
      refine j_aload_n C dX1_jobs_10 0 rfl ?_
      refine j_get (ci := 0) (v := .ref (a 2)) C in_X1 0 rfl rfl 3 (by decide) q36 rfl rfl dX1_jobs_11 ?_
      refine j_iload_n C dX1_jobs_14 2 rfl ?_
      refine j_ald (f := L) (v := (L j)) C 2 rfl rfl j (by omega) (by omega) (by decide) rfl dX1_jobs_15 ?_
      refine j_if_le (tgt := 22) C dX1_jobs_16 (by decide) (by omega) (fun h2 => ?_) (fun h2 => ?_)
      · refine j_iinc (lv' := [(0, .ref (a 0)), (1, .int (zI ((c : Nat) : Int))), (2, .int (zI (((j + 1) : Nat) : Int)))]) C (((j + 1) : Nat) : Int) dX1_jobs_22 2 rfl (by omega) (by decide) rfl rfl ?_
        refine j_goto (tgt := 4) C dX1_jobs_25 (by decide) ?_
        exact ih (j + 1) c (by omega) (by omega) (by rw [hc]; show cnt L j = if 0 < L j then cnt L j + 1 else cnt L j; rw [if_neg (by omega)])
      · refine j_iinc (lv' := [(0, .ref (a 0)), (1, .int (zI (((c + 1) : Nat) : Int))), (2, .int (zI ((j : Nat) : Int)))]) C (((c + 1) : Nat) : Int) dX1_jobs_19 1 rfl (by omega) (by decide) rfl rfl ?_
        refine j_iinc (lv' := [(0, .ref (a 0)), (1, .int (zI (((c + 1) : Nat) : Int))), (2, .int (zI (((j + 1) : Nat) : Int)))]) C (((j + 1) : Nat) : Int) dX1_jobs_22 2 rfl (by omega) (by decide) rfl rfl ?_
        refine j_goto (tgt := 4) C dX1_jobs_25 (by decide) ?_
        exact ih (j + 1) (c + 1) (by omega) (by omega) (by rw [hc]; show cnt L j + 1 = if 0 < L j then cnt L j + 1 else cnt L j; rw [if_pos (by omega)])
/-- jobs(): how many lengths are above 0 -/
theorem m_jobs (l : Launch) (D : va_G) (hL : ∀ i, i < 9 → 0 ≤ L i ∧ L i ≤ 60) : MI l yX1_jobs cX1_jobs 3 .int (rmd 0) D [(d, .int)] [.ref (a 0)] (xw d a mc dl fr kn be R L F O Lf At E P) (fun v u => u = xw d a mc dl fr kn be R L F O Lf At E P ∧ v = (cnt L 8 : Nat)) := by
  refine mi_of RX1 rfl (by decide +kernel) (Nat.le_of_ble_eq_true rfl) (fun k hkl hkD C hret => ?_)
  show JJ k 0 0 (xw d a mc dl fr kn be R L F O Lf At E P) 0 [(0, .ref (a 0))] []
  refine j_iconst C dX1_jobs_0 ?_
  refine j_istore_n (lv' := [(0, .ref (a 0)), (1, .int (zI 0))]) C dX1_jobs_1 (by decide) rfl rfl ?_
  refine j_iconst C dX1_jobs_2 ?_
  refine j_istore_n (lv' := [(0, .ref (a 0)), (1, .int (zI 0)), (2, .int (zI 0))]) C dX1_jobs_3 (by decide) rfl rfl ?_
  exact l_jobs C hL hret 9 0 0 (by omega) (by omega) rfl
theorem l_firstWithEnd {k : JK} {rm : Room} (C : jC k cX1_firstWithEnd 3 RX1 [(d, .int)] rm) (m : Nat) (hm : m < mc) (hmc : mc ≤ 3) (hE : ∀ i, i < mc → 0 ≤ E i ∧ E i ≤ 2000) (hret : jI k cX1_firstWithEnd .boolean (fun v u => u = xw d a mc dl fr kn be R L F O Lf At E P ∧ ((v = 1 ∧ ∀ o, o < m → E o ≠ E m) ∨ (v = 0 ∧ ¬ ∀ o, o < m → E o ≠ E m)))) : ∀ (n o : Nat), o ≤ m → m - o < n → (∀ i, i < o → E i ≠ E m) → JJ k 0 0 (xw d a mc dl fr kn be R L F O Lf At E P) 2 [(0, .ref (a 0)), (1, .int (zI ((m : Nat) : Int))), (2, .int (zI ((o : Nat) : Int)))] [] := by
  intro n
  induction n with
  | zero => intro o h1 h2; omega
  | succ n ih =>
    intro o ho hn hi
    have hEm := hE m hm
    refine j_iload_n C dX1_firstWithEnd_2 2 rfl ?_
    refine j_iload_n C dX1_firstWithEnd_3 1 rfl ?_
    refine j_icmp_ge (tgt := 30) C dX1_firstWithEnd_4 (by decide) (by omega) (by omega) (fun h1 => ?_) (fun h1 => ?_)
    · refine j_iconst C dX1_firstWithEnd_30 ?_
      exact j_ret hret dX1_firstWithEnd_31 nz_1 (⟨rfl, Or.inl ⟨rfl, fun i h => hi i (by omega)⟩⟩)
    · have hEo := hE o (by omega)
      refine j_aload_n C dX1_firstWithEnd_7 0 rfl ?_
      refine j_get (ci := 0) (v := .ref (a 7)) C in_X1 0 rfl rfl 9 (by decide) q42 rfl rfl dX1_firstWithEnd_8 ?_
      refine j_iload_n C dX1_firstWithEnd_11 2 rfl ?_
      refine j_ald (f := E) (v := (E o)) C 7 rfl rfl o (by omega) (by omega) (by decide) rfl dX1_firstWithEnd_12 ?_
      refine j_aload_n C dX1_firstWithEnd_13 0 rfl ?_
      refine j_get (ci := 0) (v := .ref (a 7)) C in_X1 0 rfl rfl 9 (by decide) q42 rfl rfl dX1_firstWithEnd_14 ?_
      refine j_iload_n C dX1_firstWithEnd_17 1 rfl ?_
      refine j_ald (f := E) (v := (E m)) C 7 rfl rfl m (by omega) (by omega) (by decide) rfl dX1_firstWithEnd_18 ?_
      refine j_icmp_ne (tgt := 24) C dX1_firstWithEnd_19 (by decide) (by omega) (by omega) (fun h2 => ?_) (fun h2 => ?_)
      · refine j_iinc (lv' := [(0, .ref (a 0)), (1, .int (zI ((m : Nat) : Int))), (2, .int (zI (((o + 1) : Nat) : Int)))]) C (((o + 1) : Nat) : Int) dX1_firstWithEnd_24 2 rfl (by omega) (by decide) rfl rfl ?_
        refine j_goto (tgt := 2) C dX1_firstWithEnd_27 (by decide) ?_
        exact ih (o + 1) (by omega) (by omega) (fun i h => by
          by_cases e : i = o
          · subst e; exact h2
          · exact hi i (by omega))
      · refine j_iconst C dX1_firstWithEnd_22 ?_
        exact j_ret hret dX1_firstWithEnd_23 nz_0 (⟨rfl, Or.inr ⟨rfl, fun q => q o (by omega) h2⟩⟩)
/-- firstWithEnd(m): 1 if no machine below m has m's end -/
theorem m_firstWithEnd (l : Launch) (D : va_G) (m : Nat) (hm : m < mc) (hmc : mc ≤ 3) (hE : ∀ i, i < mc → 0 ≤ E i ∧ E i ≤ 2000) : MI l yX1_firstWithEnd cX1_firstWithEnd 3 .boolean (rmd 0) D [(d, .int)] [.ref (a 0), .int (zI ((m : Nat) : Int))] (xw d a mc dl fr kn be R L F O Lf At E P) (fun v u => u = xw d a mc dl fr kn be R L F O Lf At E P ∧ ((v = 1 ∧ ∀ o, o < m → E o ≠ E m) ∨ (v = 0 ∧ ¬ ∀ o, o < m → E o ≠ E m))) := by
  refine mi_of RX1 rfl (by decide +kernel) (Nat.le_of_ble_eq_true rfl) (fun k hkl hkD C hret => ?_)
  show JJ k 0 0 (xw d a mc dl fr kn be R L F O Lf At E P) 0 [(0, .ref (a 0)), (1, .int (zI ((m : Nat) : Int)))] []
  refine j_iconst C dX1_firstWithEnd_0 ?_
  refine j_istore_n (lv' := [(0, .ref (a 0)), (1, .int (zI ((m : Nat) : Int))), (2, .int (zI 0))]) C dX1_firstWithEnd_1 (by decide) rfl rfl ?_
  exact l_firstWithEnd C m hm hmc hE hret (m + 1) 0 (by omega) (by omega) (fun i h => by omega)
theorem l_nextMachine {k : JK} (C : jC k cX1_nextMachine 5 RX1 [(d, .int)] (rmd 1)) (f0 : Nat) (sz lim : Int) (hsz : 0 ≤ sz ∧ sz ≤ 60) (hlim : 0 ≤ lim ∧ lim ≤ 1000) (hmc : mc ≤ 3) (hE : ∀ i, i < mc → 0 ≤ E i ∧ E i ≤ 2000) (hret : jI k cX1_nextMachine .int (fun v u => u = xw d a mc dl fr kn be R L F O Lf At E P ∧ ((v = -1 ∧ ∀ i, f0 ≤ i → i < mc → ¬ Good E sz lim i) ∨ ∃ m : Nat, f0 ≤ m ∧ m < mc ∧ v = m ∧ Good E sz lim m ∧ ∀ i, f0 ≤ i → i < m → ¬ Good E sz lim i))) : ∀ (n m : Nat), f0 ≤ m → m ≤ mc → mc - m < n → (∀ i, f0 ≤ i → i < m → ¬ Good E sz lim i) → JJ k 0 0 (xw d a mc dl fr kn be R L F O Lf At E P) 3 [(0, .ref (a 0)), (1, .int (zI ((f0 : Nat) : Int))), (2, .int (zI sz)), (3, .int (zI lim)), (4, .int (zI ((m : Nat) : Int)))] [] := by
  intro n
  induction n with
  | zero => intro m h0 h1 h2; omega
  | succ n ih =>
    intro m hfm hm hn hi
    have step : m < mc → ¬ Good E sz lim m → ∀ i, f0 ≤ i → i < m + 1 → ¬ Good E sz lim i := fun h1 hg i h2 h3 => by
      by_cases e : i = m
      · subst e; exact hg
      · exact hi i h2 (by omega)
    refine j_iload C dX1_nextMachine_3 4 rfl ?_
    refine j_aload_n C dX1_nextMachine_5 0 rfl ?_
    refine j_get (ci := 0) (v := .int (zI ((mc : Nat) : Int))) C in_X1 0 rfl rfl 0 (by decide) q33 rfl rfl dX1_nextMachine_6 ?_
    refine j_icmp_ge (tgt := 43) C dX1_nextMachine_9 (by decide) (by omega) (by omega) (fun h1 => ?_) (fun h1 => ?_)
    · refine j_iconst C dX1_nextMachine_43 ?_
      exact j_ret hret dX1_nextMachine_44 rfl (⟨rfl, Or.inl ⟨rfl, fun i h2 h3 => hi i h2 (by omega)⟩⟩)
    · have hEm := hE m (by omega)
      refine j_aload_n C dX1_nextMachine_12 0 rfl ?_
      refine j_get (ci := 0) (v := .ref (a 7)) C in_X1 0 rfl rfl 9 (by decide) q42 rfl rfl dX1_nextMachine_13 ?_
      refine j_iload C dX1_nextMachine_16 4 rfl ?_
      refine j_ald (f := E) (v := (E m)) C 7 rfl rfl m (by omega) (by omega) (by decide) rfl dX1_nextMachine_18 ?_
      refine j_iload_n C dX1_nextMachine_19 2 rfl ?_
      refine j_iadd C dX1_nextMachine_20 ?_
      refine j_iload_n C dX1_nextMachine_21 3 rfl ?_
      refine j_icmp_gt (tgt := 37) C dX1_nextMachine_22 (by decide) (by omega) (by omega) (fun h2 => ?_) (fun h2 => ?_)
      · refine j_iinc (lv' := [(0, .ref (a 0)), (1, .int (zI ((f0 : Nat) : Int))), (2, .int (zI sz)), (3, .int (zI lim)), (4, .int (zI (((m + 1) : Nat) : Int)))]) C (((m + 1) : Nat) : Int) dX1_nextMachine_37 4 rfl (by omega) (by decide) rfl rfl ?_
        refine j_goto (tgt := 3) C dX1_nextMachine_40 (by decide) ?_
        exact ih (m + 1) (by omega) (by omega) (by omega) (step (by omega) (fun q => by have := q.1; omega))
      · refine j_aload_n C dX1_nextMachine_25 0 rfl ?_
        refine j_iload C dX1_nextMachine_26 4 rfl ?_
        refine j_calli (ci := 0) (n := 1) C (m_firstWithEnd (kl k) (kD k) m (by omega) hmc hE) q111 q113 qs8 q23 q114 (by decide +kernel) rfl rfl (by decide) rfl rfl (Nat.le_of_ble_eq_true rfl) dX1_nextMachine_28 (fun v u hv => ?_)
        obtain ⟨rfl, hv⟩ := hv
        have hv01 : -2147483648 ≤ v ∧ v < 2147483648 := by rcases hv with ⟨h, -⟩ | ⟨h, -⟩ <;> omega
        refine j_if_eq (tgt := 37) C dX1_nextMachine_31 (by decide) (by omega) (fun h3 => ?_) (fun h3 => ?_)
        · refine j_iinc (lv' := [(0, .ref (a 0)), (1, .int (zI ((f0 : Nat) : Int))), (2, .int (zI sz)), (3, .int (zI lim)), (4, .int (zI (((m + 1) : Nat) : Int)))]) C (((m + 1) : Nat) : Int) dX1_nextMachine_37 4 rfl (by omega) (by decide) rfl rfl ?_
          refine j_goto (tgt := 3) C dX1_nextMachine_40 (by decide) ?_
          exact ih (m + 1) (by omega) (by omega) (by omega) (step (by omega) (fun q => by
            rcases hv with ⟨h, -⟩ | ⟨-, h⟩
            · omega
            · exact h q.2))
        · refine j_iload C dX1_nextMachine_34 4 rfl ?_
          have hg : Good E sz lim m := ⟨by omega, by
            rcases hv with ⟨-, h⟩ | ⟨h, -⟩
            · exact h
            · omega⟩
          exact j_ret hret dX1_nextMachine_36 rfl (⟨rfl, Or.inr ⟨m, hfm, by omega, rfl, hg, hi⟩⟩)
/-- nextMachine(from, size, limit): the first machine from there on that the search tries, or -1 -/
theorem m_nextMachine (l : Launch) (D : va_G) (f0 : Nat) (sz lim : Int) (hf : f0 ≤ mc) (hsz : 0 ≤ sz ∧ sz ≤ 60) (hlim : 0 ≤ lim ∧ lim ≤ 1000) (hmc : mc ≤ 3) (hE : ∀ i, i < mc → 0 ≤ E i ∧ E i ≤ 2000) : MI l yX1_nextMachine cX1_nextMachine 5 .int (rmd 1) D [(d, .int)] [.ref (a 0), .int (zI ((f0 : Nat) : Int)), .int (zI sz), .int (zI lim)] (xw d a mc dl fr kn be R L F O Lf At E P) (fun v u => u = xw d a mc dl fr kn be R L F O Lf At E P ∧ ((v = -1 ∧ ∀ i, f0 ≤ i → i < mc → ¬ Good E sz lim i) ∨ ∃ m : Nat, f0 ≤ m ∧ m < mc ∧ v = m ∧ Good E sz lim m ∧ ∀ i, f0 ≤ i → i < m → ¬ Good E sz lim i)) := by
  refine mi_of RX1 rfl (by decide +kernel) (Nat.le_of_ble_eq_true rfl) (fun k hkl hkD C hret => ?_)
  show JJ k 0 0 (xw d a mc dl fr kn be R L F O Lf At E P) 0 [(0, .ref (a 0)), (1, .int (zI ((f0 : Nat) : Int))), (2, .int (zI sz)), (3, .int (zI lim))] []
  refine j_iload_n C dX1_nextMachine_0 1 rfl ?_
  refine j_istore (lv' := [(0, .ref (a 0)), (1, .int (zI ((f0 : Nat) : Int))), (2, .int (zI sz)), (3, .int (zI lim)), (4, .int (zI ((f0 : Nat) : Int)))]) C dX1_nextMachine_1 (by decide) rfl rfl ?_
  exact l_nextMachine C f0 sz lim hsz hlim hmc hE hret 4 f0 (Nat.le_refl _) hf (by omega) (fun i h1 h2 => by omega)
theorem l_roomFor {k : JK} {rm : Room} (C : jC k cX1_roomFor 5 RX1 [(d, .int)] rm) (p : Nat) (lim : Int) (hp : p < 10) (hlim : 0 ≤ lim ∧ lim ≤ 1000) (hmc : mc ≤ 3) (hE : ∀ i, i < mc → 0 ≤ E i ∧ E i ≤ 2000) (hLf : 0 ≤ Lf p ∧ Lf p ≤ 1000) (hret : jI k cX1_roomFor .boolean (fun v u => u = xw d a mc dl fr kn be R L F O Lf At E P ∧ ((v = 1 ∧ (∀ i, i < mc → E i ≤ lim) ∧ Lf p ≤ sm (fun i => lim - E i) mc) ∨ (v = 0 ∧ ¬ ((∀ i, i < mc → E i ≤ lim) ∧ Lf p ≤ sm (fun i => lim - E i) mc))))) : ∀ (n m : Nat) (rr : Int), m ≤ mc → mc - m < n → (∀ i, i < m → E i ≤ lim) → rr = sm (fun i => lim - E i) m → JJ k 0 0 (xw d a mc dl fr kn be R L F O Lf At E P) 5 [(0, .ref (a 0)), (1, .int (zI ((p : Nat) : Int))), (2, .int (zI lim)), (3, .int (zI rr)), (4, .int (zI ((m : Nat) : Int)))] [] := by
  intro n
  induction n with
  | zero => intro m rr h1 h2; omega
  | succ n ih =>
    intro m rr hm hn hi hr
    refine j_iload C dX1_roomFor_5 4 rfl ?_
    refine j_aload_n C dX1_roomFor_7 0 rfl ?_
    refine j_get (ci := 0) (v := .int (zI ((mc : Nat) : Int))) C in_X1 0 rfl rfl 0 (by decide) q33 rfl rfl dX1_roomFor_8 ?_
    refine j_icmp_ge (tgt := 45) C dX1_roomFor_11 (by decide) (by omega) (by omega) (fun h1 => ?_) (fun h1 => ?_)
    · have em : m = mc := by omega
      have b1 : 0 ≤ rr := by rw [hr]; exact sm_nn (fun i hh => by have := hi i hh; show 0 ≤ lim - E i; omega)
      have b2 : rr ≤ m * 1000 := by rw [hr]; exact sm_ub (fun i hh => by have := hE i (by omega); show lim - E i ≤ 1000; omega)
      refine j_aload_n C dX1_roomFor_45 0 rfl ?_
      refine j_get (ci := 0) (v := .ref (a 5)) C in_X1 0 rfl rfl 7 (by decide) q40 rfl rfl dX1_roomFor_46 ?_
      refine j_iload_n C dX1_roomFor_49 1 rfl ?_
      refine j_ald (f := Lf) (v := (Lf p)) C 5 rfl rfl p (by omega) (by omega) (by decide) rfl dX1_roomFor_50 ?_
      refine j_iload_n C dX1_roomFor_51 3 rfl ?_
      refine j_icmp_gt (tgt := 59) C dX1_roomFor_52 (by decide) (by omega) (by omega) (fun h2 => ?_) (fun h2 => ?_)
      · refine j_iconst C dX1_roomFor_59 ?_
        exact j_ret hret dX1_roomFor_60 nz_0 (⟨rfl, Or.inr ⟨rfl, fun q => by have := q.2; rw [← em, ← hr] at this; omega⟩⟩)
      · refine j_iconst C dX1_roomFor_55 ?_
        refine j_goto (tgt := 60) C dX1_roomFor_56 (by decide) ?_
        exact j_ret hret dX1_roomFor_60 nz_1 (⟨rfl, Or.inl ⟨rfl, fun i hh => hi i (by omega), by rw [← em, ← hr]; omega⟩⟩)
    · have hEm := hE m (by omega)
      refine j_aload_n C dX1_roomFor_14 0 rfl ?_
      refine j_get (ci := 0) (v := .ref (a 7)) C in_X1 0 rfl rfl 9 (by decide) q42 rfl rfl dX1_roomFor_15 ?_
      refine j_iload C dX1_roomFor_18 4 rfl ?_
      refine j_ald (f := E) (v := (E m)) C 7 rfl rfl m (by omega) (by omega) (by decide) rfl dX1_roomFor_20 ?_
      refine j_iload_n C dX1_roomFor_21 2 rfl ?_
      refine j_icmp_le (tgt := 27) C dX1_roomFor_22 (by decide) (by omega) (by omega) (fun h2 => ?_) (fun h2 => ?_)
      · refine j_iload_n C dX1_roomFor_27 3 rfl ?_
        refine j_iload_n C dX1_roomFor_28 2 rfl ?_
        refine j_aload_n C dX1_roomFor_29 0 rfl ?_
        refine j_get (ci := 0) (v := .ref (a 7)) C in_X1 0 rfl rfl 9 (by decide) q42 rfl rfl dX1_roomFor_30 ?_
        refine j_iload C dX1_roomFor_33 4 rfl ?_
        refine j_ald (f := E) (v := (E m)) C 7 rfl rfl m (by omega) (by omega) (by decide) rfl dX1_roomFor_35 ?_
        refine j_isub C dX1_roomFor_36 ?_
        refine j_iadd C dX1_roomFor_37 ?_
        refine j_istore_n (lv' := [(0, .ref (a 0)), (1, .int (zI ((p : Nat) : Int))), (2, .int (zI lim)), (3, .int (zI (rr + (lim - (E m))))), (4, .int (zI ((m : Nat) : Int)))]) C dX1_roomFor_38 (by decide) rfl rfl ?_
        refine j_iinc (lv' := [(0, .ref (a 0)), (1, .int (zI ((p : Nat) : Int))), (2, .int (zI lim)), (3, .int (zI (rr + (lim - (E m))))), (4, .int (zI (((m + 1) : Nat) : Int)))]) C (((m + 1) : Nat) : Int) dX1_roomFor_39 4 rfl (by omega) (by decide) rfl rfl ?_
        refine j_goto (tgt := 5) C dX1_roomFor_42 (by decide) ?_
        exact ih (m + 1) _ (by omega) (by omega) (fun i hh => by
          by_cases e : i = m
          · subst e; omega
          · exact hi i (by omega)) (by rw [sm_s, hr])
      · refine j_iconst C dX1_roomFor_25 ?_
        exact j_ret hret dX1_roomFor_26 nz_0 (⟨rfl, Or.inr ⟨rfl, fun q => by have := q.1 m (by omega); omega⟩⟩)
/-- roomFor(p, limit): 1 if no machine is past the limit and the rest from place p on has room in all -/
theorem m_roomFor (l : Launch) (D : va_G) (p : Nat) (lim : Int) (hp : p < 10) (hlim : 0 ≤ lim ∧ lim ≤ 1000) (hmc : mc ≤ 3) (hE : ∀ i, i < mc → 0 ≤ E i ∧ E i ≤ 2000) (hLf : 0 ≤ Lf p ∧ Lf p ≤ 1000) : MI l yX1_roomFor cX1_roomFor 5 .boolean (rmd 0) D [(d, .int)] [.ref (a 0), .int (zI ((p : Nat) : Int)), .int (zI lim)] (xw d a mc dl fr kn be R L F O Lf At E P) (fun v u => u = xw d a mc dl fr kn be R L F O Lf At E P ∧ ((v = 1 ∧ (∀ i, i < mc → E i ≤ lim) ∧ Lf p ≤ sm (fun i => lim - E i) mc) ∨ (v = 0 ∧ ¬ ((∀ i, i < mc → E i ≤ lim) ∧ Lf p ≤ sm (fun i => lim - E i) mc)))) := by
  refine mi_of RX1 rfl (by decide +kernel) (Nat.le_of_ble_eq_true rfl) (fun k hkl hkD C hret => ?_)
  show JJ k 0 0 (xw d a mc dl fr kn be R L F O Lf At E P) 0 [(0, .ref (a 0)), (1, .int (zI ((p : Nat) : Int))), (2, .int (zI lim))] []
  refine j_iconst C dX1_roomFor_0 ?_
  refine j_istore_n (lv' := [(0, .ref (a 0)), (1, .int (zI ((p : Nat) : Int))), (2, .int (zI lim)), (3, .int (zI 0))]) C dX1_roomFor_1 (by decide) rfl rfl ?_
  refine j_iconst C dX1_roomFor_2 ?_
  refine j_istore (lv' := [(0, .ref (a 0)), (1, .int (zI ((p : Nat) : Int))), (2, .int (zI lim)), (3, .int (zI 0)), (4, .int (zI 0))]) C dX1_roomFor_3 (by decide) rfl rfl ?_
  exact l_roomFor C p lim hp hlim hmc hE hLf hret 4 0 0 (by omega) (by omega) (fun i h => by omega) rfl
theorem l_earliestMachine {k : JK} {rm : Room} (C : jC k cX1_earliestMachine 3 RX1 [(d, .int)] rm) (hmc : mc ≤ 3) (hE : ∀ i, i < mc → 0 ≤ E i ∧ E i ≤ 2000) (hret : jI k cX1_earliestMachine .int (fun v u => u = xw d a mc dl fr kn be R L F O Lf At E P ∧ ∃ m : Nat, m < mc ∧ v = m)) : ∀ (n m b : Nat), b < mc → m ≤ mc → mc - m < n → JJ k 0 0 (xw d a mc dl fr kn be R L F O Lf At E P) 4 [(0, .ref (a 0)), (1, .int (zI ((b : Nat) : Int))), (2, .int (zI ((m : Nat) : Int)))] [] := by
  intro n
  induction n with
  | zero => intro m b h1 h2 h3; omega
  | succ n ih =>
    intro m b hb hm hn
    refine j_iload_n C dX1_earliestMachine_4 2 rfl ?_
    refine j_aload_n C dX1_earliestMachine_5 0 rfl ?_
    refine j_get (ci := 0) (v := .int (zI ((mc : Nat) : Int))) C in_X1 0 rfl rfl 0 (by decide) q33 rfl rfl dX1_earliestMachine_6 ?_
    refine j_icmp_ge (tgt := 35) C dX1_earliestMachine_9 (by decide) (by omega) (by omega) (fun h1 => ?_) (fun h1 => ?_)
    · refine j_iload_n C dX1_earliestMachine_35 1 rfl ?_
      exact j_ret hret dX1_earliestMachine_36 rfl (⟨rfl, b, hb, rfl⟩)
    · have hEm := hE m (by omega)
      have hEb := hE b hb
      refine j_aload_n C dX1_earliestMachine_12 0 rfl ?_
      refine j_get (ci := 0) (v := .ref (a 7)) C in_X1 0 rfl rfl 9 (by decide) q42 rfl rfl dX1_earliestMachine_13 ?_
      refine j_iload_n C dX1_earliestMachine_16 2 rfl ?_
      refine j_ald (f := E) (v := (E m)) C 7 rfl rfl m (by omega) (by omega) (by decide) rfl dX1_earliestMachine_17 ?_
      refine j_aload_n C dX1_earliestMachine_18 0 rfl ?_
      refine j_get (ci := 0) (v := .ref (a 7)) C in_X1 0 rfl rfl 9 (by decide) q42 rfl rfl dX1_earliestMachine_19 ?_
      refine j_iload_n C dX1_earliestMachine_22 1 rfl ?_
      refine j_ald (f := E) (v := (E b)) C 7 rfl rfl b (by omega) (by omega) (by decide) rfl dX1_earliestMachine_23 ?_
      refine j_icmp_ge (tgt := 29) C dX1_earliestMachine_24 (by decide) (by omega) (by omega) (fun h2 => ?_) (fun h2 => ?_)
      · refine j_iinc (lv' := [(0, .ref (a 0)), (1, .int (zI ((b : Nat) : Int))), (2, .int (zI (((m + 1) : Nat) : Int)))]) C (((m + 1) : Nat) : Int) dX1_earliestMachine_29 2 rfl (by omega) (by decide) rfl rfl ?_
        refine j_goto (tgt := 4) C dX1_earliestMachine_32 (by decide) ?_
        exact ih (m + 1) b hb (by omega) (by omega)
      · refine j_iload_n C dX1_earliestMachine_27 2 rfl ?_
        refine j_istore_n (lv' := [(0, .ref (a 0)), (1, .int (zI ((m : Nat) : Int))), (2, .int (zI ((m : Nat) : Int)))]) C dX1_earliestMachine_28 (by decide) rfl rfl ?_
        refine j_iinc (lv' := [(0, .ref (a 0)), (1, .int (zI ((m : Nat) : Int))), (2, .int (zI (((m + 1) : Nat) : Int)))]) C (((m + 1) : Nat) : Int) dX1_earliestMachine_29 2 rfl (by omega) (by decide) rfl rfl ?_
        refine j_goto (tgt := 4) C dX1_earliestMachine_32 (by decide) ?_
        exact ih (m + 1) m (by omega) (by omega) (by omega)
/-- earliestMachine(): one of the machines -/
theorem m_earliestMachine (l : Launch) (D : va_G) (hmc1 : 1 ≤ mc) (hmc : mc ≤ 3) (hE : ∀ i, i < mc → 0 ≤ E i ∧ E i ≤ 2000) : MI l yX1_earliestMachine cX1_earliestMachine 3 .int (rmd 0) D [(d, .int)] [.ref (a 0)] (xw d a mc dl fr kn be R L F O Lf At E P) (fun v u => u = xw d a mc dl fr kn be R L F O Lf At E P ∧ ∃ m : Nat, m < mc ∧ v = m) := by
  refine mi_of RX1 rfl (by decide +kernel) (Nat.le_of_ble_eq_true rfl) (fun k hkl hkD C hret => ?_)
  show JJ k 0 0 (xw d a mc dl fr kn be R L F O Lf At E P) 0 [(0, .ref (a 0))] []
  refine j_iconst C dX1_earliestMachine_0 ?_
  refine j_istore_n (lv' := [(0, .ref (a 0)), (1, .int (zI 0))]) C dX1_earliestMachine_1 (by decide) rfl rfl ?_
  refine j_iconst C dX1_earliestMachine_2 ?_
  refine j_istore_n (lv' := [(0, .ref (a 0)), (1, .int (zI 0)), (2, .int (zI 1))]) C dX1_earliestMachine_3 (by decide) rfl rfl ?_
  exact l_earliestMachine C hmc hE hret 4 1 0 (by omega) (by omega) (by omega)
end Leaves2
end
section
/-! BatchAdmission: insertInOrder, arrange -/
set_option maxRecDepth 100000
section Arr
variable {d : ClassId} {a : Nat → Nat} {mc : Nat} {dl fr kn be : Int} {R L F O Lf At E P : Nat → Int}
theorem l_insertInOrder {k : JK} {rm : Room} (C : jC k cX1_insertInOrder 4 RX1 [(d, .int)] rm) (j n0 : Nat) (hj : j < 9) (hn0 : n0 ≤ 8) (hO : ∀ i, i < n0 → 0 ≤ O i ∧ O i < 9) (hL : ∀ i, i < 9 → 0 ≤ L i ∧ L i ≤ 60) (hret : jV k cX1_insertInOrder (fun u => ∃ (O' : Nat → Int) (q : Nat), u = xw d a mc dl ((n0 + 1 : Nat) : Int) kn be R L F O' Lf At E P ∧ q ≤ n0 ∧ (∀ i, i < q → O' i = O i) ∧ O' q = (j : Int) ∧ ∀ i, q < i → i ≤ n0 → O' i = O (i - 1))) : ∀ (n i q : Nat) (O' : Nat → Int), i < n → i ≤ q → q ≤ n0 → (∀ i, i < q → O' i = O i) → (∀ i, q < i → i ≤ n0 → O' i = O (i - 1)) → JJ k 0 0 (xw d a mc dl ((n0 : Nat) : Int) kn be R L F O' Lf At E P) 10 [(0, .ref (a 0)), (1, .int (zI ((j : Nat) : Int))), (2, .int (zI ((q : Nat) : Int))), (3, .int (zI ((i : Nat) : Int)))] [] := by
  intro n
  induction n with
  | zero => intro i q O' h; omega
  | succ n ih =>
    intro i q O' hn hiq hq h1 h2
    refine j_iload_n C dX1_insertInOrder_10 3 rfl ?_
    refine j_if_le (tgt := 65) C dX1_insertInOrder_11 (by decide) (by omega) (fun b1 => ?_) (fun b1 => ?_)
    · refine j_aload_n C dX1_insertInOrder_65 0 rfl ?_
      refine j_get (ci := 0) (v := .ref (a 4)) C in_X1 0 rfl rfl 6 (by decide) q39 rfl rfl dX1_insertInOrder_66 ?_
      refine j_iload_n C dX1_insertInOrder_69 2 rfl ?_
      refine j_iload_n C dX1_insertInOrder_70 1 rfl ?_
      refine j_ast (f := O') (ws' := (xw d a mc dl ((n0 : Nat) : Int) kn be R L F (zU O' q ((j : Nat) : Int)) Lf At E P)) C 4 rfl rfl q (by omega) (by omega) (by decide) dX1_insertInOrder_71 rfl ?_
      refine j_aload_n C dX1_insertInOrder_72 0 rfl ?_
      refine j_dup C dX1_insertInOrder_73 rfl ?_
      refine j_get (ci := 0) (v := .int (zI ((n0 : Nat) : Int))) C in_X1 0 rfl rfl 5 (by decide) q38 rfl rfl dX1_insertInOrder_74 ?_
      refine j_iconst C dX1_insertInOrder_77 ?_
      refine j_iadd C dX1_insertInOrder_78 ?_
      rw [show ((n0 : Nat) : Int) + 1 = ((n0 + 1 : Nat) : Int) from by omega]
      refine j_put (ci := 0) (ws' := (xw d a mc dl ((n0 + 1 : Nat) : Int) kn be R L F (zU O' q ((j : Nat) : Int)) Lf At E P)) C in_X1 tyX1 tyX1_ok nmX1 0 rfl rfl 5 (by decide) q38 rfl rfl rfl rfl (Nat.le_of_ble_eq_true rfl) dX1_insertInOrder_79 rfl ?_
      exact j_vret hret dX1_insertInOrder_82 (⟨_, q, rfl, hq, fun x hx => by rw [zU_n (by omega)]; exact h1 x hx, zU_s, fun x hx hx2 => by rw [zU_n (by omega)]; exact h2 x hx hx2⟩)
    · refine j_iload_n C dX1_insertInOrder_14 2 rfl ?_
      refine j_iload_n C dX1_insertInOrder_15 3 rfl ?_
      refine j_icmp_ne (tgt := 59) C dX1_insertInOrder_16 (by decide) (by omega) (by omega) (fun b2 => ?_) (fun b2 => ?_)
      · refine j_iinc (lv' := [(0, .ref (a 0)), (1, .int (zI ((j : Nat) : Int))), (2, .int (zI ((q : Nat) : Int))), (3, .int (zI (((i - 1) : Nat) : Int)))]) C (((i - 1) : Nat) : Int) dX1_insertInOrder_59 3 rfl (by omega) (by decide) rfl rfl ?_
        refine j_goto (tgt := 10) C dX1_insertInOrder_62 (by decide) ?_
        exact ih (i - 1) q O' (by omega) (by omega) hq h1 h2
      · have hOi : O' (i - 1) = O (i - 1) := h1 _ (by omega)
        have hOb := hO (i - 1) (by omega)
        have hLi := hL (O' (i - 1)).toNat (by omega)
        have hLj := hL j hj
        refine j_aload_n C dX1_insertInOrder_19 0 rfl ?_
        refine j_get (ci := 0) (v := .ref (a 2)) C in_X1 0 rfl rfl 3 (by decide) q36 rfl rfl dX1_insertInOrder_20 ?_
        refine j_aload_n C dX1_insertInOrder_23 0 rfl ?_
        refine j_get (ci := 0) (v := .ref (a 4)) C in_X1 0 rfl rfl 6 (by decide) q39 rfl rfl dX1_insertInOrder_24 ?_
        refine j_iload_n C dX1_insertInOrder_27 3 rfl ?_
        refine j_iconst C dX1_insertInOrder_28 ?_
        refine j_isub C dX1_insertInOrder_29 ?_
        refine j_ald (f := O') (v := (O' (i - 1))) C 4 rfl rfl (i - 1) (by omega) (by omega) (by decide) rfl dX1_insertInOrder_30 ?_
        refine j_ald (f := L) (v := (L (O' (i - 1)).toNat)) C 2 rfl rfl (O' (i - 1)).toNat (by omega) (by omega) (by decide) rfl dX1_insertInOrder_31 ?_
        refine j_aload_n C dX1_insertInOrder_32 0 rfl ?_
        refine j_get (ci := 0) (v := .ref (a 2)) C in_X1 0 rfl rfl 3 (by decide) q36 rfl rfl dX1_insertInOrder_33 ?_
        refine j_iload_n C dX1_insertInOrder_36 1 rfl ?_
        refine j_ald (f := L) (v := (L j)) C 2 rfl rfl j (by omega) (by omega) (by decide) rfl dX1_insertInOrder_37 ?_
        refine j_icmp_ge (tgt := 59) C dX1_insertInOrder_38 (by decide) (by omega) (by omega) (fun b3 => ?_) (fun b3 => ?_)
        · refine j_iinc (lv' := [(0, .ref (a 0)), (1, .int (zI ((j : Nat) : Int))), (2, .int (zI ((q : Nat) : Int))), (3, .int (zI (((i - 1) : Nat) : Int)))]) C (((i - 1) : Nat) : Int) dX1_insertInOrder_59 3 rfl (by omega) (by decide) rfl rfl ?_
          refine j_goto (tgt := 10) C dX1_insertInOrder_62 (by decide) ?_
          exact ih (i - 1) q O' (by omega) (by omega) hq h1 h2
        · refine j_aload_n C dX1_insertInOrder_41 0 rfl ?_
          refine j_get (ci := 0) (v := .ref (a 4)) C in_X1 0 rfl rfl 6 (by decide) q39 rfl rfl dX1_insertInOrder_42 ?_
          refine j_iload_n C dX1_insertInOrder_45 3 rfl ?_
          refine j_aload_n C dX1_insertInOrder_46 0 rfl ?_
          refine j_get (ci := 0) (v := .ref (a 4)) C in_X1 0 rfl rfl 6 (by decide) q39 rfl rfl dX1_insertInOrder_47 ?_
          refine j_iload_n C dX1_insertInOrder_50 3 rfl ?_
          refine j_iconst C dX1_insertInOrder_51 ?_
          refine j_isub C dX1_insertInOrder_52 ?_
          refine j_ald (f := O') (v := (O' (i - 1))) C 4 rfl rfl (i - 1) (by omega) (by omega) (by decide) rfl dX1_insertInOrder_53 ?_
          refine j_ast (f := O') (ws' := (xw d a mc dl ((n0 : Nat) : Int) kn be R L F (zU O' i (O' (i - 1))) Lf At E P)) C 4 rfl rfl i (by omega) (by omega) (by decide) dX1_insertInOrder_54 rfl ?_
          refine j_iload_n C dX1_insertInOrder_55 3 rfl ?_
          refine j_iconst C dX1_insertInOrder_56 ?_
          refine j_isub C dX1_insertInOrder_57 ?_
          rw [show (((i : Nat) : Int) - 1) = (((i - 1) : Nat) : Int) from by omega]
          refine j_istore_n (lv' := [(0, .ref (a 0)), (1, .int (zI ((j : Nat) : Int))), (2, .int (zI (((i - 1) : Nat) : Int))), (3, .int (zI ((i : Nat) : Int)))]) C dX1_insertInOrder_58 (by decide) rfl rfl ?_
          refine j_iinc (lv' := [(0, .ref (a 0)), (1, .int (zI ((j : Nat) : Int))), (2, .int (zI (((i - 1) : Nat) : Int))), (3, .int (zI (((i - 1) : Nat) : Int)))]) C (((i - 1) : Nat) : Int) dX1_insertInOrder_59 3 rfl (by omega) (by decide) rfl rfl ?_
          refine j_goto (tgt := 10) C dX1_insertInOrder_62 (by decide) ?_
          refine ih (i - 1) (i - 1) _ (by omega) (by omega) (by omega) (fun x hx => ?_) (fun x hx hx2 => ?_)
          · rw [zU_n (by omega)]
            exact h1 x (by omega)
          · by_cases e : x = i
            · subst e
              rw [zU_s]
              exact hOi
            · rw [zU_n e]
              exact h2 x (by omega) hx2
/-- insertInOrder(j): j is put at some place of the order, the rest keeps its order; free is one more -/
theorem m_insertInOrder (l : Launch) (D : va_G) (j n0 : Nat) (hj : j < 9) (hn0 : n0 ≤ 8) (hO : ∀ i, i < n0 → 0 ≤ O i ∧ O i < 9) (hL : ∀ i, i < 9 → 0 ≤ L i ∧ L i ≤ 60) : MV l yX1_insertInOrder cX1_insertInOrder 4 (rmd 0) D [(d, .int)] [.ref (a 0), .int (zI ((j : Nat) : Int))] (xw d a mc dl ((n0 : Nat) : Int) kn be R L F O Lf At E P) (fun u => ∃ (O' : Nat → Int) (q : Nat), u = xw d a mc dl ((n0 + 1 : Nat) : Int) kn be R L F O' Lf At E P ∧ q ≤ n0 ∧ (∀ i, i < q → O' i = O i) ∧ O' q = (j : Int) ∧ ∀ i, q < i → i ≤ n0 → O' i = O (i - 1)) := by
  refine mv_of RX1 rfl (by decide +kernel) (Nat.le_of_ble_eq_true rfl) (fun k hkl hkD C hret => ?_)
  show JJ k 0 0 (xw d a mc dl ((n0 : Nat) : Int) kn be R L F O Lf At E P) 0 [(0, .ref (a 0)), (1, .int (zI ((j : Nat) : Int)))] []
  refine j_aload_n C dX1_insertInOrder_0 0 rfl ?_
  refine j_get (ci := 0) (v := .int (zI ((n0 : Nat) : Int))) C in_X1 0 rfl rfl 5 (by decide) q38 rfl rfl dX1_insertInOrder_1 ?_
  refine j_istore_n (lv' := [(0, .ref (a 0)), (1, .int (zI ((j : Nat) : Int))), (2, .int (zI ((n0 : Nat) : Int)))]) C dX1_insertInOrder_4 (by decide) rfl rfl ?_
  refine j_aload_n C dX1_insertInOrder_5 0 rfl ?_
  refine j_get (ci := 0) (v := .int (zI ((n0 : Nat) : Int))) C in_X1 0 rfl rfl 5 (by decide) q38 rfl rfl dX1_insertInOrder_6 ?_
  refine j_istore_n (lv' := [(0, .ref (a 0)), (1, .int (zI ((j : Nat) : Int))), (2, .int (zI ((n0 : Nat) : Int))), (3, .int (zI ((n0 : Nat) : Int)))]) C dX1_insertInOrder_9 (by decide) rfl rfl ?_
  exact l_insertInOrder C j n0 hj hn0 hO hL hret (n0 + 1) n0 n0 O (by omega) (by omega) (by omega) (fun _ _ => rfl) (fun i h1 h2 => by omega)
/-- arrange(): its end -/
def ArrQ (d : ClassId) (a : Nat → Nat) (mc : Nat) (dl kn be : Int) (R L F At P : Nat → Int) (u : va_W) : Prop := ∃ (n : Nat) (O E Lf : Nat → Int), u = xw d a mc dl ((n : Nat) : Int) kn be R L F O Lf At E P ∧ Ord L F O n 9 ∧ Fix mc R L F E 9 ∧ ∀ z, z ≤ n → Lf z = sm (fun i => L (O i).toNat) n - sm (fun i => L (O i).toNat) z
theorem l_arrange3 {k : JK} {rm : Room} (C : jC k cX1_arrange 2 RX1 [(d, .int)] rm) (n : Nat) (ho : Ord L F O n 9) (he : Fix mc R L F E 9) (hret : jV k cX1_arrange (ArrQ d a mc dl kn be R L F At P)) : ∀ (t : Nat) (Lf : Nat → Int), t ≤ n → (∀ z, t ≤ z → z ≤ n → Lf z = sm (fun i => L (O i).toNat) n - sm (fun i => L (O i).toNat) z) → JJ k 0 0 (xw d a mc dl ((n : Nat) : Int) kn be R L F O Lf At E P) 119 [(0, .ref (a 0)), (1, .int (zI (((t : Nat) : Int) - 1)))] [] := by
  have hn9 := ord_le ho
  intro t
  induction t with
  | zero =>
    intro Lf ht h
    refine j_iload_n C dX1_arrange_119 1 rfl ?_
    refine j_if_lt (tgt := 155) C dX1_arrange_120 (by decide) (by omega) (fun b1 => ?_) (fun b1 => ?_)
    · exact j_vret hret dX1_arrange_155 (⟨n, O, E, Lf, rfl, ho, he, fun z hz => h z (by omega) hz⟩)
    · exact absurd (show (((0 : Nat) : Int) - 1) < 0 by omega) b1
  | succ t ih =>
    intro Lf ht h
    have hOt := (ho.1 t (by omega)).1
    rw [show ((((t + 1 : Nat) : Int)) - 1) = ((t : Nat) : Int) from by omega]
    refine j_iload_n C dX1_arrange_119 1 rfl ?_
    refine j_if_lt (tgt := 155) C dX1_arrange_120 (by decide) (by omega) (fun b1 => ?_) (fun b1 => ?_)
    · omega
    · refine j_aload_n C dX1_arrange_123 0 rfl ?_
      refine j_get (ci := 0) (v := .ref (a 5)) C in_X1 0 rfl rfl 7 (by decide) q40 rfl rfl dX1_arrange_124 ?_
      refine j_iload_n C dX1_arrange_127 1 rfl ?_
      refine j_aload_n C dX1_arrange_128 0 rfl ?_
      refine j_get (ci := 0) (v := .ref (a 5)) C in_X1 0 rfl rfl 7 (by decide) q40 rfl rfl dX1_arrange_129 ?_
      refine j_iload_n C dX1_arrange_132 1 rfl ?_
      refine j_iconst C dX1_arrange_133 ?_
      refine j_iadd C dX1_arrange_134 ?_
      refine j_ald (f := Lf) (v := (Lf (t + 1))) C 5 rfl rfl (t + 1) (by omega) (by omega) (by decide) rfl dX1_arrange_135 ?_
      refine j_aload_n C dX1_arrange_136 0 rfl ?_
      refine j_get (ci := 0) (v := .ref (a 2)) C in_X1 0 rfl rfl 3 (by decide) q36 rfl rfl dX1_arrange_137 ?_
      refine j_aload_n C dX1_arrange_140 0 rfl ?_
      refine j_get (ci := 0) (v := .ref (a 4)) C in_X1 0 rfl rfl 6 (by decide) q39 rfl rfl dX1_arrange_141 ?_
      refine j_iload_n C dX1_arrange_144 1 rfl ?_
      refine j_ald (f := O) (v := (O t)) C 4 rfl rfl t (by omega) (by omega) (by decide) rfl dX1_arrange_145 ?_
      refine j_ald (f := L) (v := (L (O t).toNat)) C 2 rfl rfl (O t).toNat (by omega) (by omega) (by decide) rfl dX1_arrange_146 ?_
      refine j_iadd C dX1_arrange_147 ?_
      refine j_ast (f := Lf) (ws' := (xw d a mc dl ((n : Nat) : Int) kn be R L F O (zU Lf t ((Lf (t + 1)) + (L (O t).toNat))) At E P)) C 5 rfl rfl t (by omega) (by omega) (by decide) dX1_arrange_148 rfl ?_
      refine j_iinc (lv' := [(0, .ref (a 0)), (1, .int (zI (((t : Nat) : Int) - 1)))]) C (((t : Nat) : Int) - 1) dX1_arrange_149 1 rfl (by omega) (by decide) rfl rfl ?_
      refine j_goto (tgt := 119) C dX1_arrange_152 (by decide) ?_
      exact ih _ (by omega) (fun z hz hz2 => by
        by_cases e : z = t
        · subst e
          rw [zU_s, h (z + 1) (by omega) (by omega), sm_s]
          omega
        · rw [zU_n e]
          exact h z (by omega) hz2)
theorem fix_step {mc : Nat} {R ℓ F E : Nat → Int} {j : Nat} (h : Fix mc R ℓ F E j) (hl : 0 < ℓ j) (hf : 0 ≤ F j) : Fix mc R ℓ F (zU E (F j).toNat (E (F j).toNat + ℓ j)) (j + 1) := by
    intro m hm
    have h0 := h m hm
    rw [sm_s]
    by_cases e : m = (F j).toNat
    · subst e
      rw [zU_s, if_pos ⟨⟨hl, hf⟩, by omega⟩, h0]
      omega
    · rw [zU_n e, if_neg (fun q => by have := q.2; omega), h0]
      omega
theorem fix_skip {mc : Nat} {R ℓ F E : Nat → Int} {j : Nat} (h : Fix mc R ℓ F E j) (hj : ¬ (0 < ℓ j ∧ 0 ≤ F j)) : Fix mc R ℓ F E (j + 1) := by
    intro m hm
    rw [sm_s, if_neg (fun q => hj q.1), h m hm]
    omega
theorem l_arrange2 {k : JK} (C : jC k cX1_arrange 2 RX1 [(d, .int)] (rmd 1)) (hmc : mc ≤ 3) (hL : ∀ i, i < 9 → 0 ≤ L i ∧ L i ≤ 60) (hF : ∀ i, i < 9 → -1 ≤ F i ∧ F i < mc) (hret : jV k cX1_arrange (ArrQ d a mc dl kn be R L F At P)) : ∀ (n j q : Nat) (O E : Nat → Int), j ≤ 9 → 9 - j < n → Ord L F O q j → Fix mc R L F E j → JJ k 0 0 (xw d a mc dl ((q : Nat) : Int) kn be R L F O Lf At E P) 35 [(0, .ref (a 0)), (1, .int (zI ((j : Nat) : Int)))] [] := by
  intro n
  induction n with
  | zero => intro j q O E h1 h2; omega
  | succ n ih =>
    intro j q O E hj hn ho he
    have hqj := ord_le ho
    refine j_iload_n C dX1_arrange_35 1 rfl ?_
    refine j_bipush C dX1_arrange_36 (by decide +kernel) ?_
    refine j_icmp_ge (tgt := 102) C dX1_arrange_38 (by decide) (by omega) (by omega) (fun b1 => ?_) (fun b1 => ?_)
    · have ej : j = 9 := by omega
      subst ej
      refine j_aload_n C dX1_arrange_102 0 rfl ?_
      refine j_get (ci := 0) (v := .ref (a 5)) C in_X1 0 rfl rfl 7 (by decide) q40 rfl rfl dX1_arrange_103 ?_
      refine j_aload_n C dX1_arrange_106 0 rfl ?_
      refine j_get (ci := 0) (v := .int (zI ((q : Nat) : Int))) C in_X1 0 rfl rfl 5 (by decide) q38 rfl rfl dX1_arrange_107 ?_
      refine j_iconst C dX1_arrange_110 ?_
      refine j_ast (f := Lf) (ws' := (xw d a mc dl ((q : Nat) : Int) kn be R L F O (zU Lf q 0) At E P)) C 5 rfl rfl q (by omega) (by omega) (by decide) dX1_arrange_111 rfl ?_
      refine j_aload_n C dX1_arrange_112 0 rfl ?_
      refine j_get (ci := 0) (v := .int (zI ((q : Nat) : Int))) C in_X1 0 rfl rfl 5 (by decide) q38 rfl rfl dX1_arrange_113 ?_
      refine j_iconst C dX1_arrange_116 ?_
      refine j_isub C dX1_arrange_117 ?_
      refine j_istore_n (lv' := [(0, .ref (a 0)), (1, .int (zI (((q : Nat) : Int) - 1)))]) C dX1_arrange_118 (by decide) rfl rfl ?_
      exact l_arrange3 C q ho he hret q _ (Nat.le_refl _) (fun z hz hz2 => by rw [show z = q from by omega, zU_s]; omega)
    · have hLj := hL j (by omega)
      have hFj := hF j (by omega)
      refine j_aload_n C dX1_arrange_41 0 rfl ?_
      refine j_get (ci := 0) (v := .ref (a 2)) C in_X1 0 rfl rfl 3 (by decide) q36 rfl rfl dX1_arrange_42 ?_
      refine j_iload_n C dX1_arrange_45 1 rfl ?_
      refine j_ald (f := L) (v := (L j)) C 2 rfl rfl j (by omega) (by omega) (by decide) rfl dX1_arrange_46 ?_
      refine j_if_le (tgt := 82) C dX1_arrange_47 (by decide) (by omega) (fun b2 => ?_) (fun b2 => ?_)
      · refine j_aload_n C dX1_arrange_82 0 rfl ?_
        refine j_get (ci := 0) (v := .ref (a 2)) C in_X1 0 rfl rfl 3 (by decide) q36 rfl rfl dX1_arrange_83 ?_
        refine j_iload_n C dX1_arrange_86 1 rfl ?_
        refine j_ald (f := L) (v := (L j)) C 2 rfl rfl j (by omega) (by omega) (by decide) rfl dX1_arrange_87 ?_
        refine j_if_le (tgt := 96) C dX1_arrange_88 (by decide) (by omega) (fun b3 => ?_) (fun b3 => ?_)
        · refine j_iinc (lv' := [(0, .ref (a 0)), (1, .int (zI (((j + 1) : Nat) : Int)))]) C (((j + 1) : Nat) : Int) dX1_arrange_96 1 rfl (by omega) (by decide) rfl rfl ?_
          refine j_goto (tgt := 35) C dX1_arrange_99 (by decide) ?_
          exact ih (j + 1) q O E (by omega) (by omega) (ord_skip ho (fun q => by have := q.1; omega)) (fix_skip he (fun q => by have := q.1; omega))
        · omega
      · refine j_aload_n C dX1_arrange_50 0 rfl ?_
        refine j_get (ci := 0) (v := .ref (a 3)) C in_X1 0 rfl rfl 4 (by decide) q37 rfl rfl dX1_arrange_51 ?_
        refine j_iload_n C dX1_arrange_54 1 rfl ?_
        refine j_ald (f := F) (v := (F j)) C 3 rfl rfl j (by omega) (by omega) (by decide) rfl dX1_arrange_55 ?_
        refine j_if_lt (tgt := 82) C dX1_arrange_56 (by decide) (by omega) (fun b3 => ?_) (fun b3 => ?_)
        · refine j_aload_n C dX1_arrange_82 0 rfl ?_
          refine j_get (ci := 0) (v := .ref (a 2)) C in_X1 0 rfl rfl 3 (by decide) q36 rfl rfl dX1_arrange_83 ?_
          refine j_iload_n C dX1_arrange_86 1 rfl ?_
          refine j_ald (f := L) (v := (L j)) C 2 rfl rfl j (by omega) (by omega) (by decide) rfl dX1_arrange_87 ?_
          refine j_if_le (tgt := 96) C dX1_arrange_88 (by decide) (by omega) (fun b4 => ?_) (fun b4 => ?_)
          · omega
          · refine j_aload_n C dX1_arrange_91 0 rfl ?_
            refine j_iload_n C dX1_arrange_92 1 rfl ?_
            refine j_callv (ci := 0) (n := 1) C (m_insertInOrder (kl k) (kD k) j q (by omega) (by omega) (fun i hi => by have := (ho.1 i hi).1; omega) hL) q98 q100 qs5 q23 q101 (by decide +kernel) rfl rfl (by decide) rfl rfl (Nat.le_of_ble_eq_true rfl) dX1_arrange_93 (fun u hu => ?_)
            obtain ⟨O', q', rfl, hq', a1, a2, a3⟩ := hu
            refine j_iinc (lv' := [(0, .ref (a 0)), (1, .int (zI (((j + 1) : Nat) : Int)))]) C (((j + 1) : Nat) : Int) dX1_arrange_96 1 rfl (by omega) (by decide) rfl rfl ?_
            refine j_goto (tgt := 35) C dX1_arrange_99 (by decide) ?_
            exact ih (j + 1) (q + 1) O' E (by omega) (by omega) (ord_ins ho (by omega) (by omega) hq' a1 a2 a3) (fix_skip he (fun q => by have := q.2; omega))
        · refine j_aload_n C dX1_arrange_59 0 rfl ?_
          refine j_get (ci := 0) (v := .ref (a 7)) C in_X1 0 rfl rfl 9 (by decide) q42 rfl rfl dX1_arrange_60 ?_
          refine j_aload_n C dX1_arrange_63 0 rfl ?_
          refine j_get (ci := 0) (v := .ref (a 3)) C in_X1 0 rfl rfl 4 (by decide) q37 rfl rfl dX1_arrange_64 ?_
          refine j_iload_n C dX1_arrange_67 1 rfl ?_
          refine j_ald (f := F) (v := (F j)) C 3 rfl rfl j (by omega) (by omega) (by decide) rfl dX1_arrange_68 ?_
          refine j_dup2 C dX1_arrange_69 rfl rfl ?_
          refine j_ald (f := E) (v := (E (F j).toNat)) C 7 rfl rfl (F j).toNat (by omega) (by omega) (by decide) rfl dX1_arrange_70 ?_
          refine j_aload_n C dX1_arrange_71 0 rfl ?_
          refine j_get (ci := 0) (v := .ref (a 2)) C in_X1 0 rfl rfl 3 (by decide) q36 rfl rfl dX1_arrange_72 ?_
          refine j_iload_n C dX1_arrange_75 1 rfl ?_
          refine j_ald (f := L) (v := (L j)) C 2 rfl rfl j (by omega) (by omega) (by decide) rfl dX1_arrange_76 ?_
          refine j_iadd C dX1_arrange_77 ?_
          refine j_ast (f := E) (ws' := (xw d a mc dl ((q : Nat) : Int) kn be R L F O Lf At (zU E (F j).toNat ((E (F j).toNat) + (L j))) P)) C 7 rfl rfl (F j).toNat (by omega) (by omega) (by decide) dX1_arrange_78 rfl ?_
          refine j_goto (tgt := 96) C dX1_arrange_79 (by decide) ?_
          refine j_iinc (lv' := [(0, .ref (a 0)), (1, .int (zI (((j + 1) : Nat) : Int)))]) C (((j + 1) : Nat) : Int) dX1_arrange_96 1 rfl (by omega) (by decide) rfl rfl ?_
          refine j_goto (tgt := 35) C dX1_arrange_99 (by decide) ?_
          exact ih (j + 1) q O _ (by omega) (by omega) (ord_skip ho (fun q => by have := q.2; omega)) (fix_step he (by omega) (by omega))
theorem l_arrange1 {k : JK} (C : jC k cX1_arrange 2 RX1 [(d, .int)] (rmd 1)) (hmc : mc ≤ 3) (hL : ∀ i, i < 9 → 0 ≤ L i ∧ L i ≤ 60) (hF : ∀ i, i < 9 → -1 ≤ F i ∧ F i < mc) (hret : jV k cX1_arrange (ArrQ d a mc dl kn be R L F At P)) : ∀ (n m : Nat) (E : Nat → Int), m ≤ mc → mc - m < n → (∀ i, i < m → E i = R i) → JJ k 0 0 (xw d a mc dl fr kn be R L F O Lf At E P) 2 [(0, .ref (a 0)), (1, .int (zI ((m : Nat) : Int)))] [] := by
  intro n
  induction n with
  | zero => intro m E h1 h2; omega
  | succ n ih =>
    intro m E hm hn hi
    refine j_iload_n C dX1_arrange_2 1 rfl ?_
    refine j_aload_n C dX1_arrange_3 0 rfl ?_
    refine j_get (ci := 0) (v := .int (zI ((mc : Nat) : Int))) C in_X1 0 rfl rfl 0 (by decide) q33 rfl rfl dX1_arrange_4 ?_
    refine j_icmp_ge (tgt := 28) C dX1_arrange_7 (by decide) (by omega) (by omega) (fun b1 => ?_) (fun b1 => ?_)
    · refine j_aload_n C dX1_arrange_28 0 rfl ?_
      refine j_iconst C dX1_arrange_29 ?_
      refine j_put (ci := 0) (ws' := (xw d a mc dl 0 kn be R L F O Lf At E P)) C in_X1 tyX1 tyX1_ok nmX1 0 rfl rfl 5 (by decide) q38 rfl rfl rfl rfl (Nat.le_of_ble_eq_true rfl) dX1_arrange_30 rfl ?_
      refine j_iconst C dX1_arrange_33 ?_
      refine j_istore_n (lv' := [(0, .ref (a 0)), (1, .int (zI 0))]) C dX1_arrange_34 (by decide) rfl rfl ?_
      exact l_arrange2 C hmc hL hF hret 10 0 0 O E (by omega) (by omega) ord_0 (fun i hh => by rw [sm_0, hi i (by omega)]; omega)
    · refine j_aload_n C dX1_arrange_10 0 rfl ?_
      refine j_get (ci := 0) (v := .ref (a 7)) C in_X1 0 rfl rfl 9 (by decide) q42 rfl rfl dX1_arrange_11 ?_
      refine j_iload_n C dX1_arrange_14 1 rfl ?_
      refine j_aload_n C dX1_arrange_15 0 rfl ?_
      refine j_get (ci := 0) (v := .ref (a 1)) C in_X1 0 rfl rfl 2 (by decide) q35 rfl rfl dX1_arrange_16 ?_
      refine j_iload_n C dX1_arrange_19 1 rfl ?_
      refine j_ald (f := R) (v := (R m)) C 1 rfl rfl m (by omega) (by omega) (by decide) rfl dX1_arrange_20 ?_
      refine j_ast (f := E) (ws' := (xw d a mc dl fr kn be R L F O Lf At (zU E m (R m)) P)) C 7 rfl rfl m (by omega) (by omega) (by decide) dX1_arrange_21 rfl ?_
      refine j_iinc (lv' := [(0, .ref (a 0)), (1, .int (zI (((m + 1) : Nat) : Int)))]) C (((m + 1) : Nat) : Int) dX1_arrange_22 1 rfl (by omega) (by decide) rfl rfl ?_
      refine j_goto (tgt := 2) C dX1_arrange_25 (by decide) ?_
      exact ih (m + 1) _ (by omega) (by omega) (fun i hh => by
        by_cases e : i = m
        · subst e; rw [zU_s]
        · rw [zU_n e]; exact hi i (by omega))
/-- arrange(): the order lists the free jobs, the ends are those of ready times and fixed jobs, left holds the sums -/
theorem m_arrange (l : Launch) (D : va_G) (hmc : mc ≤ 3) (hL : ∀ i, i < 9 → 0 ≤ L i ∧ L i ≤ 60) (hF : ∀ i, i < 9 → -1 ≤ F i ∧ F i < mc) : MV l yX1_arrange cX1_arrange 2 (rmd 1) D [(d, .int)] [.ref (a 0)] (xw d a mc dl fr kn be R L F O Lf At E P) (ArrQ d a mc dl kn be R L F At P) := by
  refine mv_of RX1 rfl (by decide +kernel) (Nat.le_of_ble_eq_true rfl) (fun k hkl hkD C hret => ?_)
  show JJ k 0 0 (xw d a mc dl fr kn be R L F O Lf At E P) 0 [(0, .ref (a 0))] []
  refine j_iconst C dX1_arrange_0 ?_
  refine j_istore_n (lv' := [(0, .ref (a 0)), (1, .int (zI 0))]) C dX1_arrange_1 (by decide) rfl rfl ?_
  exact l_arrange1 C hmc hL hF hret 4 0 E (by omega) (by omega) (fun i h => by omega)
end Arr
end
section
/-! BatchAdmission: fitsBy, the search -/
set_option maxRecDepth 100000
def szf (L O : Nat → Int) (n i : Nat) : Int := if i < n then L (O i).toNat else 0
theorem can_congr {mc : Nat} {lim : Int} {s s' : Nat → Int} : ∀ {q : Nat} {E : Nat → Int} {d : Nat}, (∀ i, d ≤ i → i < d + q → s i = s' i) → (Can mc lim s q E d ↔ Can mc lim s' q E d)
  | 0, _, _, _ => Iff.rfl
  | q + 1, E, d, h => by
    have hd := h d (Nat.le_refl d) (by omega)
    constructor
    · rintro ⟨m, hm, hc⟩
      exact ⟨m, hm, by rw [← hd]; exact (can_congr (fun i h1 h2 => h i (by omega) (by omega))).mp hc⟩
    · rintro ⟨m, hm, hc⟩
      exact ⟨m, hm, by rw [hd]; exact (can_congr (fun i h1 h2 => h i (by omega) (by omega))).mpr hc⟩
theorem seg_congr2 {f g : Nat → Int} : ∀ (q d : Nat), (∀ i, d ≤ i → i < d + q → f i = g i) → seg f d q = seg g d q
  | 0, _, _ => rfl
  | q + 1, d, h => by
    show f d + seg f (d + 1) q = g d + seg g (d + 1) q
    rw [h d (Nat.le_refl d) (by omega), seg_congr2 q (d + 1) (fun i h1 h2 => h i (by omega) (by omega))]
theorem seg_bd {f : Nat → Int} {b : Int} (hb : 0 ≤ b) : ∀ (q d : Nat), (∀ i, 0 ≤ f i ∧ f i ≤ b) → 0 ≤ seg f d q ∧ seg f d q ≤ q * b
  | 0, _, _ => by show (0 : Int) ≤ 0 ∧ (0 : Int) ≤ _; simp
  | q + 1, d, h => by
    have h1 := seg_bd hb q (d + 1) h
    have h2 := h d
    have h3 : ((q + 1 : Nat) : Int) * b = q * b + b := by rw [Int.natCast_add, Int.add_mul]; simp
    show 0 ≤ f d + seg f (d + 1) q ∧ f d + seg f (d + 1) q ≤ _
    rw [h3]
    omega
theorem fix_bd {mc : Nat} {R ℓ F E : Nat → Int} (hmc : mc ≤ 3) (h : Fix mc R ℓ F E 9) (hR : ∀ i, i < 3 → 0 ≤ R i ∧ R i ≤ 60) (hl : ∀ i, i < 9 → 0 ≤ ℓ i ∧ ℓ i ≤ 60) : ∀ m, m < mc → 0 ≤ E m ∧ E m ≤ 600 := by
  intro m hm
  rw [h m hm]
  have h1 := hR m (by omega)
  have h2 : 0 ≤ sm (fun z => if (0 < ℓ z ∧ 0 ≤ F z) ∧ F z = (m : Int) then ℓ z else 0) 9 := sm_nn (fun i hi => by
    have := hl i hi
    show 0 ≤ if (0 < ℓ i ∧ 0 ≤ F i) ∧ F i = (m : Int) then ℓ i else 0
    split <;> omega)
  have h3 : sm (fun z => if (0 < ℓ z ∧ 0 ≤ F z) ∧ F z = (m : Int) then ℓ z else 0) 9 ≤ (9 : Nat) * 60 := sm_ub (fun i hi => by
    have := hl i hi
    show (if (0 < ℓ i ∧ 0 ≤ F i) ∧ F i = (m : Int) then ℓ i else 0) ≤ 60
    split <;> omega)
  omega
def tt : Nat → Nat
  | 0 => 0
  | q + 1 => 3 * (tt q + 2)
theorem tt_le : ∀ q, q ≤ 9 → tt q ≤ 60000 := by decide +kernel
theorem zU_back {E : Nat → Int} {m : Nat} {v w : Int} (h : w = E m) : zU (zU E m v) m w = E := by
  funext i
  by_cases e : i = m
  · subst e; rw [zU_s, h]
  · rw [zU_n e, zU_n e]
section Fit
variable {d : ClassId} {a : Nat → Nat} {mc : Nat} {dl fr kn be : Int} {R L F O Lf At E P : Nat → Int}
set_option maxHeartbeats 4000000 in
theorem l_dfs {k : JK} (C : jC k cX1_fitsBy 5 RX1 [(d, .int)] (rmd 2)) (n : Nat) (lim : Int) (hn : n ≤ 9) (hlim : 0 ≤ lim ∧ lim ≤ 1000) (hmc : mc ≤ 3) (hO : ∀ i, i < n → 0 ≤ O i ∧ O i < 9) (hL : ∀ i, i < 9 → 0 ≤ L i ∧ L i ≤ 60) (hLf : ∀ z, z ≤ n → (0 ≤ Lf z ∧ Lf z ≤ 1000) ∧ Lf z = seg (szf L O n) z (n - z)) (G : Prop) (hret : jI k cX1_fitsBy .boolean (fun v u => (∃ At E : Nat → Int, u = xw d a mc dl ((n : Nat) : Int) kn be R L F O Lf At E P) ∧ ((v = 1 ∧ G) ∨ (v = 0 ∧ ¬ G)))) : ∀ (q dd : Nat), dd + q = n → ∀ (E At : Nat → Int) (step : Nat), (∀ m, m < mc → 0 ≤ E m ∧ E m ≤ lim) → At dd = -1 → step + tt q ≤ 60000 → (Can mc lim (szf L O n) q E dd → G) → (¬ Can mc lim (szf L O n) q E dd → ∀ (At' : Nat → Int) (step' : Nat), (∀ i, i < dd → At' i = At i) → step' ≤ step + tt q → JJ k 0 0 (xw d a mc dl ((n : Nat) : Int) kn be R L F O Lf At' E P) 110 [(0, .ref (a 0)), (1, .int (zI lim)), (2, .int (zI ((dd : Nat) : Int))), (3, .int (zI ((step' : Nat) : Int)))] []) → JJ k 0 0 (xw d a mc dl ((n : Nat) : Int) kn be R L F O Lf At E P) 26 [(0, .ref (a 0)), (1, .int (zI lim)), (2, .int (zI ((dd : Nat) : Int))), (3, .int (zI ((step : Nat) : Int)))] [] := by
  have hs : ∀ i, 0 ≤ szf L O n i := fun i => by
    unfold szf
    split
    · rename_i hi
      have := hO i hi
      exact (hL _ (by omega)).1
    · exact Int.le_refl 0
  intro q
  induction q with
  | zero =>
    intro dd hdd E At step hE hAt hst hT hFl
    have ht0 : tt 0 = 0 := rfl
    refine j_iload_n C dX1_fitsBy_26 3 rfl ?_
    refine j_ldc C 120000 q106 (by decide +kernel) dX1_fitsBy_27 ?_
    refine j_icmp_ge (tgt := 165) C dX1_fitsBy_29 (by decide) (by omega) (by omega) (fun b1 => ?_) (fun b1 => ?_)
    · omega
    · refine j_iload_n C dX1_fitsBy_32 2 rfl ?_
      refine j_aload_n C dX1_fitsBy_33 0 rfl ?_
      refine j_get (ci := 0) (v := .int (zI ((n : Nat) : Int))) C in_X1 0 rfl rfl 5 (by decide) q38 rfl rfl dX1_fitsBy_34 ?_
      refine j_icmp_ne (tgt := 42) C dX1_fitsBy_37 (by decide) (by omega) (by omega) (fun b2 => ?_) (fun b2 => ?_)
      · omega
      · refine j_iconst C dX1_fitsBy_40 ?_
        exact j_ret hret dX1_fitsBy_41 nz_1 (⟨⟨At, E, rfl⟩, Or.inl ⟨rfl, hT (fun m hm => (hE m hm).2)⟩⟩)
  | succ q ih =>
    intro dd hdd E At step hE hAt hst hT hFl
    have htt : tt (q + 1) = 3 * (tt q + 2) := rfl
    have hOd := hO dd (by omega)
    have hsz := hL (O dd).toNat (by omega)
    have esz : szf L O n dd = L (O dd).toNat := if_pos (by omega)
    have inner : ∀ (r c : Nat) (At' : Nat → Int) (step' : Nat), mc - c < r → c ≤ mc → (∀ i, i < dd → At' i = At i) → At' dd = (c : Int) - 1 → (∀ m, m < c → ¬ Can mc lim (szf L O n) q (zU E m (E m + szf L O n dd)) (dd + 1)) → step' ≤ step + c * (tt q + 2) → JJ k 0 0 (xw d a mc dl ((n : Nat) : Int) kn be R L F O Lf At' (if c = 0 then E else zU E (c - 1) (E (c - 1) + L (O dd).toNat)) P) 26 [(0, .ref (a 0)), (1, .int (zI lim)), (2, .int (zI ((dd : Nat) : Int))), (3, .int (zI ((step' : Nat) : Int)))] [] := by
      intro r
      induction r with
      | zero => intro c At' step' h1 h2; omega
      | succ r ihr =>
        intro c At' step' hr hc hag hAd hno hstep
        have hstb : step' ≤ 60000 := by
          have : c * (tt q + 2) ≤ 3 * (tt q + 2) := Nat.mul_le_mul_right _ (by omega)
          omega
        have h80 : JJ k 0 0 (xw d a mc dl ((n : Nat) : Int) kn be R L F O Lf At' E P) 80 [(0, .ref (a 0)), (1, .int (zI lim)), (2, .int (zI ((dd : Nat) : Int))), (3, .int (zI ((step' : Nat) : Int))), (4, .int (zI (L (O dd).toNat)))] [] := by
          refine j_aload_n C dX1_fitsBy_80 0 rfl ?_
          refine j_get (ci := 0) (v := .ref (a 6)) C in_X1 0 rfl rfl 8 (by decide) q41 rfl rfl dX1_fitsBy_81 ?_
          refine j_iload_n C dX1_fitsBy_84 2 rfl ?_
          refine j_aload_n C dX1_fitsBy_85 0 rfl ?_
          refine j_aload_n C dX1_fitsBy_86 0 rfl ?_
          refine j_get (ci := 0) (v := .ref (a 6)) C in_X1 0 rfl rfl 8 (by decide) q41 rfl rfl dX1_fitsBy_87 ?_
          refine j_iload_n C dX1_fitsBy_90 2 rfl ?_
          refine j_ald (f := At') (v := (((c : Nat) : Int) - 1)) C 6 rfl rfl dd (by omega) (by omega) (by decide) (hAd) dX1_fitsBy_91 ?_
          refine j_iconst C dX1_fitsBy_92 ?_
          refine j_iadd C dX1_fitsBy_93 ?_
          rw [show ((((c : Nat) : Int) - 1) + 1) = ((c : Nat) : Int) from by omega]
          refine j_iload C dX1_fitsBy_94 4 rfl ?_
          refine j_iload_n C dX1_fitsBy_96 1 rfl ?_
          refine j_calli (ci := 0) (n := 3) C (m_nextMachine (kl k) (kD k) c (L (O dd).toNat) lim hc hsz hlim hmc (fun i hi => by have := hE i hi; omega)) q107 q109 qs7 q23 q110 (by decide +kernel) rfl rfl (by decide) rfl rfl (Nat.le_of_ble_eq_true rfl) dX1_fitsBy_97 (fun v u hv => ?_)
          obtain ⟨rfl, hv⟩ := hv
          have hvr : -1 ≤ v ∧ v < mc := by rcases hv with ⟨h, -⟩ | ⟨m, h1, h2, h3, -⟩ <;> omega
          refine j_ast (f := At') (ws' := (xw d a mc dl ((n : Nat) : Int) kn be R L F O Lf (zU At' dd v) E P)) C 6 rfl rfl dd (by omega) (by omega) (by decide) dX1_fitsBy_100 rfl ?_
          refine j_aload_n C dX1_fitsBy_101 0 rfl ?_
          refine j_get (ci := 0) (v := .ref (a 6)) C in_X1 0 rfl rfl 8 (by decide) q41 rfl rfl dX1_fitsBy_102 ?_
          refine j_iload_n C dX1_fitsBy_105 2 rfl ?_
          refine j_ald (f := (zU At' dd v)) (v := v) C 6 rfl rfl dd (by omega) (by omega) (by decide) (zU_s) dX1_fitsBy_106 ?_
          refine j_if_ge (tgt := 122) C dX1_fitsBy_107 (by decide) (by omega) (fun b3 => ?_) (fun b3 => ?_)
          · have hv : ∃ m : Nat, c ≤ m ∧ m < mc ∧ v = m ∧ Good E (L (O dd).toNat) lim m ∧ ∀ i, c ≤ i → i < m → ¬ Good E (L (O dd).toNat) lim i := by
              rcases hv with ⟨h, -⟩ | h
              · omega
              · exact h
            obtain ⟨m, hm1, hm2, rfl, hg, hng⟩ := hv
            have hnm : ∀ i, i < m → ¬ Can mc lim (szf L O n) q (zU E i (E i + szf L O n dd)) (dd + 1) := next_no hs (Nat.le_of_lt hm2) hno (by rw [esz]; exact hng)
            have hEm := hE m hm2
            have hgm := hg.1
            have hE' : ∀ i, i < mc → 0 ≤ zU E m (E m + L (O dd).toNat) i ∧ zU E m (E m + L (O dd).toNat) i ≤ lim := fun i hi => by
              by_cases e : i = m
              · subst e; rw [zU_s]; omega
              · rw [zU_n e]; exact hE i hi
            have hmul : (m + 1) * (tt q + 2) = m * (tt q + 2) + (tt q + 2) := Nat.succ_mul _ _
            have hmul2 : c * (tt q + 2) ≤ m * (tt q + 2) := Nat.mul_le_mul_right _ hm1
            have hmul3 : (m + 1) * (tt q + 2) ≤ 3 * (tt q + 2) := Nat.mul_le_mul_right _ (by omega)
            have eif : (if m + 1 = 0 then E else zU E (m + 1 - 1) (E (m + 1 - 1) + L (O dd).toNat)) = zU E m (E m + L (O dd).toNat) := if_neg (by omega)
            refine j_aload_n C dX1_fitsBy_122 0 rfl ?_
            refine j_get (ci := 0) (v := .ref (a 7)) C in_X1 0 rfl rfl 9 (by decide) q42 rfl rfl dX1_fitsBy_123 ?_
            refine j_aload_n C dX1_fitsBy_126 0 rfl ?_
            refine j_get (ci := 0) (v := .ref (a 6)) C in_X1 0 rfl rfl 8 (by decide) q41 rfl rfl dX1_fitsBy_127 ?_
            refine j_iload_n C dX1_fitsBy_130 2 rfl ?_
            refine j_ald (f := (zU At' dd ((m : Nat) : Int))) (v := ((m : Nat) : Int)) C 6 rfl rfl dd (by omega) (by omega) (by decide) (zU_s) dX1_fitsBy_131 ?_
            refine j_dup2 C dX1_fitsBy_132 rfl rfl ?_
            refine j_ald (f := E) (v := (E m)) C 7 rfl rfl m (by omega) (by omega) (by decide) rfl dX1_fitsBy_133 ?_
            refine j_iload C dX1_fitsBy_134 4 rfl ?_
            refine j_iadd C dX1_fitsBy_136 ?_
            refine j_ast (f := E) (ws' := (xw d a mc dl ((n : Nat) : Int) kn be R L F O Lf (zU At' dd ((m : Nat) : Int)) (zU E m ((E m) + (L (O dd).toNat))) P)) C 7 rfl rfl m (by omega) (by omega) (by decide) dX1_fitsBy_137 rfl ?_
            refine j_aload_n C dX1_fitsBy_138 0 rfl ?_
            refine j_iload_n C dX1_fitsBy_139 2 rfl ?_
            refine j_iconst C dX1_fitsBy_140 ?_
            refine j_iadd C dX1_fitsBy_141 ?_
            rw [show (((dd : Nat) : Int) + 1) = (((dd + 1) : Nat) : Int) from by omega]
            refine j_iload_n C dX1_fitsBy_142 1 rfl ?_
            refine j_calli (ci := 0) (n := 2) C (m_roomFor (kl k) (kD k) (dd + 1) lim (by omega) hlim hmc (fun i hi => by have := hE' i hi; omega) (hLf (dd + 1) (by omega)).1) q102 q104 qs6 q23 q105 (by decide +kernel) rfl rfl (by decide) rfl rfl (Nat.le_of_ble_eq_true rfl) dX1_fitsBy_143 (fun w u hw => ?_)
            obtain ⟨rfl, hw⟩ := hw
            have hwr : -2147483648 ≤ w ∧ w < 2147483648 := by rcases hw with ⟨h, -⟩ | ⟨h, -⟩ <;> omega
            refine j_if_eq (tgt := 159) C dX1_fitsBy_146 (by decide) (by omega) (fun b4 => ?_) (fun b4 => ?_)
            · have hw : ¬ ((∀ i, i < mc → zU E m (E m + L (O dd).toNat) i ≤ lim) ∧ Lf (dd + 1) ≤ sm (fun i => lim - zU E m (E m + L (O dd).toNat) i) mc) := by
                rcases hw with ⟨h, -⟩ | ⟨-, h⟩
                · omega
                · exact h
              refine j_sub (lv' := [(0, .ref (a 0)), (1, .int (zI lim)), (2, .int (zI ((dd : Nat) : Int))), (3, .int (zI ((step' : Nat) : Int)))]) [0, 1, 2, 3] rfl ?_
              refine j_iinc (lv' := [(0, .ref (a 0)), (1, .int (zI lim)), (2, .int (zI ((dd : Nat) : Int))), (3, .int (zI (((step' + 1) : Nat) : Int)))]) C (((step' + 1) : Nat) : Int) dX1_fitsBy_159 3 rfl (by omega) (by decide) rfl rfl ?_
              refine j_goto (tgt := 26) C dX1_fitsBy_162 (by decide) ?_
              have hih := ihr (m + 1) (zU At' dd ((m : Nat) : Int)) (step' + 1) (by omega) (by omega) (fun i hi => by rw [zU_n (by omega)]; exact hag i hi) (by rw [zU_s]; omega) (fun i hi hcan => by
                by_cases e : i = m
                · subst e
                  rw [esz] at hcan
                  refine hw ⟨can_le hcan hs, ?_⟩
                  have := can_sum hcan
                  rw [(hLf (dd + 1) (by omega)).2, show n - (dd + 1) = q from by omega]
                  exact this
                · exact hnm i (by omega) hcan) (by omega)
              rw [eif] at hih
              exact hih
            · refine j_iinc (lv' := [(0, .ref (a 0)), (1, .int (zI lim)), (2, .int (zI (((dd + 1) : Nat) : Int))), (3, .int (zI ((step' : Nat) : Int))), (4, .int (zI (L (O dd).toNat)))]) C (((dd + 1) : Nat) : Int) dX1_fitsBy_149 2 rfl (by omega) (by decide) rfl rfl ?_
              refine j_aload_n C dX1_fitsBy_152 0 rfl ?_
              refine j_get (ci := 0) (v := .ref (a 6)) C in_X1 0 rfl rfl 8 (by decide) q41 rfl rfl dX1_fitsBy_153 ?_
              refine j_iload_n C dX1_fitsBy_156 2 rfl ?_
              refine j_iconst C dX1_fitsBy_157 ?_
              refine j_ast (f := (zU At' dd ((m : Nat) : Int))) (ws' := (xw d a mc dl ((n : Nat) : Int) kn be R L F O Lf (zU (zU At' dd ((m : Nat) : Int)) (dd + 1) (-1)) (zU E m ((E m) + (L (O dd).toNat))) P)) C 6 rfl rfl (dd + 1) (by omega) (by omega) (by decide) dX1_fitsBy_158 rfl ?_
              refine j_sub (lv' := [(0, .ref (a 0)), (1, .int (zI lim)), (2, .int (zI (((dd + 1) : Nat) : Int))), (3, .int (zI ((step' : Nat) : Int)))]) [0, 1, 2, 3] rfl ?_
              refine j_iinc (lv' := [(0, .ref (a 0)), (1, .int (zI lim)), (2, .int (zI (((dd + 1) : Nat) : Int))), (3, .int (zI (((step' + 1) : Nat) : Int)))]) C (((step' + 1) : Nat) : Int) dX1_fitsBy_159 3 rfl (by omega) (by decide) rfl rfl ?_
              refine j_goto (tgt := 26) C dX1_fitsBy_162 (by decide) ?_
              refine ih (dd + 1) (by omega) _ _ _ hE' zU_s (by omega) (fun hcan => hT ⟨m, hm2, by rw [esz]; exact hcan⟩) (fun hcan At3 step3 hag3 hst3 => ?_)
              refine j_iload_n C dX1_fitsBy_110 2 rfl ?_
              refine j_if_ne (tgt := 116) C dX1_fitsBy_111 (by decide) (by omega) (fun b5 => ?_) (fun b5 => ?_)
              · refine j_iinc (lv' := [(0, .ref (a 0)), (1, .int (zI lim)), (2, .int (zI ((((dd+1) - 1) : Nat) : Int))), (3, .int (zI ((step3 : Nat) : Int)))]) C ((((dd+1) - 1) : Nat) : Int) dX1_fitsBy_116 2 rfl (by omega) (by decide) rfl rfl ?_
                refine j_goto (tgt := 159) C dX1_fitsBy_119 (by decide) ?_
                refine j_iinc (lv' := [(0, .ref (a 0)), (1, .int (zI lim)), (2, .int (zI ((((dd+1) - 1) : Nat) : Int))), (3, .int (zI (((step3 + 1) : Nat) : Int)))]) C (((step3 + 1) : Nat) : Int) dX1_fitsBy_159 3 rfl (by omega) (by decide) rfl rfl ?_
                refine j_goto (tgt := 26) C dX1_fitsBy_162 (by decide) ?_
                have hih := ihr (m + 1) At3 (step3 + 1) (by omega) (by omega) (fun i hi => by rw [hag3 i (by omega), zU_n (by omega), zU_n (by omega)]; exact hag i hi) (by rw [hag3 dd (by omega), zU_n (by omega), zU_s]; omega) (fun i hi hc2 => by
                  by_cases e : i = m
                  · subst e
                    rw [esz] at hc2
                    exact hcan hc2
                  · exact hnm i (by omega) hc2) (by omega)
                rw [eif] at hih
                exact hih
              · omega
          · have hv : ∀ i, c ≤ i → i < mc → ¬ Good E (L (O dd).toNat) lim i := by
              rcases hv with ⟨-, h⟩ | ⟨m, h1, h2, h3, -⟩
              · exact h
              · omega
            refine j_sub (lv' := [(0, .ref (a 0)), (1, .int (zI lim)), (2, .int (zI ((dd : Nat) : Int))), (3, .int (zI ((step' : Nat) : Int)))]) [0, 1, 2, 3] rfl ?_
            refine hFl (fun hcan => ?_) _ step' (fun i hi => by rw [zU_n (by omega)]; exact hag i hi) ?_
            · obtain ⟨m, hm, hcm⟩ := hcan
              exact next_no hs (Nat.le_refl mc) hno (by rw [esz]; exact hv) m hm hcm
            · have : c * (tt q + 2) ≤ 3 * (tt q + 2) := Nat.mul_le_mul_right _ (by omega)
              omega
        refine j_iload_n C dX1_fitsBy_26 3 rfl ?_
        refine j_ldc C 120000 q106 (by decide +kernel) dX1_fitsBy_27 ?_
        refine j_icmp_ge (tgt := 165) C dX1_fitsBy_29 (by decide) (by omega) (by omega) (fun b1 => ?_) (fun b1 => ?_)
        · omega
        · refine j_iload_n C dX1_fitsBy_32 2 rfl ?_
          refine j_aload_n C dX1_fitsBy_33 0 rfl ?_
          refine j_get (ci := 0) (v := .int (zI ((n : Nat) : Int))) C in_X1 0 rfl rfl 5 (by decide) q38 rfl rfl dX1_fitsBy_34 ?_
          refine j_icmp_ne (tgt := 42) C dX1_fitsBy_37 (by decide) (by omega) (by omega) (fun b2 => ?_) (fun b2 => ?_)
          · refine j_aload_n C dX1_fitsBy_42 0 rfl ?_
            refine j_get (ci := 0) (v := .ref (a 2)) C in_X1 0 rfl rfl 3 (by decide) q36 rfl rfl dX1_fitsBy_43 ?_
            refine j_aload_n C dX1_fitsBy_46 0 rfl ?_
            refine j_get (ci := 0) (v := .ref (a 4)) C in_X1 0 rfl rfl 6 (by decide) q39 rfl rfl dX1_fitsBy_47 ?_
            refine j_iload_n C dX1_fitsBy_50 2 rfl ?_
            refine j_ald (f := O) (v := (O dd)) C 4 rfl rfl dd (by omega) (by omega) (by decide) rfl dX1_fitsBy_51 ?_
            refine j_ald (f := L) (v := (L (O dd).toNat)) C 2 rfl rfl (O dd).toNat (by omega) (by omega) (by decide) rfl dX1_fitsBy_52 ?_
            refine j_istore (lv' := [(0, .ref (a 0)), (1, .int (zI lim)), (2, .int (zI ((dd : Nat) : Int))), (3, .int (zI ((step' : Nat) : Int))), (4, .int (zI (L (O dd).toNat)))]) C dX1_fitsBy_53 (by decide) rfl rfl ?_
            refine j_aload_n C dX1_fitsBy_55 0 rfl ?_
            refine j_get (ci := 0) (v := .ref (a 6)) C in_X1 0 rfl rfl 8 (by decide) q41 rfl rfl dX1_fitsBy_56 ?_
            refine j_iload_n C dX1_fitsBy_59 2 rfl ?_
            refine j_ald (f := At') (v := (((c : Nat) : Int) - 1)) C 6 rfl rfl dd (by omega) (by omega) (by decide) (hAd) dX1_fitsBy_60 ?_
            refine j_if_lt (tgt := 80) C dX1_fitsBy_61 (by decide) (by omega) (fun b3 => ?_) (fun b3 => ?_)
            · rw [if_pos (show c = 0 by omega)]
              exact h80
            · rw [if_neg (show ¬ c = 0 by omega)]
              refine j_aload_n C dX1_fitsBy_64 0 rfl ?_
              refine j_get (ci := 0) (v := .ref (a 7)) C in_X1 0 rfl rfl 9 (by decide) q42 rfl rfl dX1_fitsBy_65 ?_
              refine j_aload_n C dX1_fitsBy_68 0 rfl ?_
              refine j_get (ci := 0) (v := .ref (a 6)) C in_X1 0 rfl rfl 8 (by decide) q41 rfl rfl dX1_fitsBy_69 ?_
              refine j_iload_n C dX1_fitsBy_72 2 rfl ?_
              refine j_ald (f := At') (v := (((c - 1) : Nat) : Int)) C 6 rfl rfl dd (by omega) (by omega) (by decide) (by rw [hAd]; omega) dX1_fitsBy_73 ?_
              refine j_dup2 C dX1_fitsBy_74 rfl rfl ?_
              refine j_ald (f := (zU E (c - 1) (E (c - 1) + L (O dd).toNat))) (v := (E (c - 1) + L (O dd).toNat)) C 7 rfl rfl (c - 1) (by omega) (by omega) (by decide) (zU_s) dX1_fitsBy_75 ?_
              refine j_iload C dX1_fitsBy_76 4 rfl ?_
              refine j_isub C dX1_fitsBy_78 ?_
              refine j_ast (f := (zU E (c - 1) (E (c - 1) + L (O dd).toNat))) (ws' := (xw d a mc dl ((n : Nat) : Int) kn be R L F O Lf At' (zU (zU E (c - 1) (E (c - 1) + L (O dd).toNat)) (c - 1) ((E (c - 1) + L (O dd).toNat) - (L (O dd).toNat))) P)) C 7 rfl rfl (c - 1) (by omega) (by omega) (by decide) dX1_fitsBy_79 rfl ?_
              rw [zU_back (by omega)]
              exact h80
          · omega
    have := inner (mc + 1) 0 At step (by omega) (by omega) (fun _ _ => rfl) (by rw [hAt]; rfl) (fun m hm => by omega) (by omega)
    rw [if_pos rfl] at this
    exact this
theorem jI_mono {k : JK} {cc : ByteArray} {rt : FieldType} {post post' : Int → va_W → Prop} (h : jI k cc rt post) (hi : ∀ v u, post' v u → post v u) : jI k cc rt post' :=
  fun pc ls v u H locs hd hn hp hP hD hS => h pc ls v u H locs hd hn (hi v u hp) hP hD hS
set_option maxHeartbeats 4000000 in
/-- fitsBy(limit): 1 if some plan, with the fixed jobs on their machines, ends by the limit -/
theorem m_fitsBy (l : Launch) (D : va_G) (lim : Int) (hlim : 0 ≤ lim ∧ lim ≤ 1000) (hmc : mc ≤ 3) (hR : ∀ i, i < 3 → 0 ≤ R i ∧ R i ≤ 60) (hL : ∀ i, i < 9 → 0 ≤ L i ∧ L i ≤ 60) (hF : ∀ i, i < 9 → -1 ≤ F i ∧ F i < mc) : MI l yX1_fitsBy cX1_fitsBy 5 .boolean (rmd 2) D [(d, .int)] [.ref (a 0), .int (zI lim)] (xw d a mc dl fr kn be R L F O Lf At E P) (fun v u => (∃ (fr' : Int) (O' Lf' At' E' : Nat → Int), u = xw d a mc dl fr' kn be R L F O' Lf' At' E' P) ∧ ((v = 1 ∧ Fits mc R L F lim) ∨ (v = 0 ∧ ¬ Fits mc R L F lim))) := by
  refine mi_of RX1 rfl (by decide +kernel) (Nat.le_of_ble_eq_true rfl) (fun k hkl hkD C hret => ?_)
  show JJ k 0 0 (xw d a mc dl fr kn be R L F O Lf At E P) 0 [(0, .ref (a 0)), (1, .int (zI lim))] []
  refine j_aload_n C dX1_fitsBy_0 0 rfl ?_
  refine j_callv (ci := 0) (n := 0) C (m_arrange (kl k) (kD k) hmc hL hF) q94 q96 qs4 q23 q97 (by decide +kernel) rfl rfl (by decide) rfl rfl (Nat.le_of_ble_eq_true rfl) dX1_fitsBy_1 (fun u hu => ?_)
  obtain ⟨n, O, E, Lf, rfl, ho, he, hls⟩ := hu
  have hn9 := ord_le ho
  have hEb := fix_bd hmc he hR hL
  have hsb : ∀ i, 0 ≤ szf L O n i ∧ szf L O n i ≤ 60 := fun i => by
    unfold szf
    split
    · rename_i hi
      have := (ho.1 i hi).1
      exact hL _ (by omega)
    · omega
  have hLf : ∀ z, z ≤ n → (0 ≤ Lf z ∧ Lf z ≤ 1000) ∧ Lf z = seg (szf L O n) z (n - z) := fun z hz => by
    have e : Lf z = seg (szf L O n) z (n - z) := by
      rw [hls z hz, seg_congr2 (f := szf L O n) (g := fun i => L (O i).toNat) (n - z) z (fun i h1 h2 => if_pos (by omega)), seg_sm, show z + (n - z) = n from by omega]
    have b := seg_bd (f := szf L O n) (b := 60) (by omega) (n - z) z hsb
    exact ⟨by omega, e⟩
  have hfc : ∀ lim, Fits mc R L F lim ↔ Can mc lim (szf L O n) n E 0 := fun lim => (fits_can ho he (fun j hj _ => (hF j hj).2) (fun j hj => (hL j hj).1)).trans (can_congr (fun i h1 h2 => (if_pos (by omega)).symm))
  refine j_aload_n C dX1_fitsBy_4 0 rfl ?_
  refine j_iconst C dX1_fitsBy_5 ?_
  refine j_iload_n C dX1_fitsBy_6 1 rfl ?_
  refine j_calli (ci := 0) (n := 2) C (m_roomFor (kl k) (kD k) 0 lim (by omega) hlim hmc (fun i hi => by have := hEb i hi; omega) (hLf 0 (by omega)).1) q102 q104 qs6 q23 q105 (by decide +kernel) rfl rfl (by decide) rfl rfl (Nat.le_of_ble_eq_true rfl) dX1_fitsBy_7 (fun w u hw => ?_)
  obtain ⟨rfl, hw⟩ := hw
  have hwr : -2147483648 ≤ w ∧ w < 2147483648 := by rcases hw with ⟨h, -⟩ | ⟨h, -⟩ <;> omega
  refine j_if_ne (tgt := 15) C dX1_fitsBy_10 (by decide) (by omega) (fun b1 => ?_) (fun b1 => ?_)
  · have hw : (∀ i, i < mc → E i ≤ lim) ∧ Lf 0 ≤ sm (fun i => lim - E i) mc := by
      rcases hw with ⟨-, h⟩ | ⟨h, -⟩
      · exact h
      · omega
    refine j_iconst C dX1_fitsBy_15 ?_
    refine j_istore_n (lv' := [(0, .ref (a 0)), (1, .int (zI lim)), (2, .int (zI 0))]) C dX1_fitsBy_16 (by decide) rfl rfl ?_
    refine j_aload_n C dX1_fitsBy_17 0 rfl ?_
    refine j_get (ci := 0) (v := .ref (a 6)) C in_X1 0 rfl rfl 8 (by decide) q41 rfl rfl dX1_fitsBy_18 ?_
    refine j_iconst C dX1_fitsBy_21 ?_
    refine j_iconst C dX1_fitsBy_22 ?_
    refine j_ast (f := At) (ws' := (xw d a mc dl ((n : Nat) : Int) kn be R L F O Lf (zU At 0 (-1)) E P)) C 6 rfl rfl 0 (by omega) (by omega) (by decide) dX1_fitsBy_23 rfl ?_
    refine j_iconst C dX1_fitsBy_24 ?_
    refine j_istore_n (lv' := [(0, .ref (a 0)), (1, .int (zI lim)), (2, .int (zI 0)), (3, .int (zI 0))]) C dX1_fitsBy_25 (by decide) rfl rfl ?_
    refine l_dfs C n lim hn9 hlim hmc (fun i hi => by have := (ho.1 i hi).1; omega) hL hLf (Fits mc R L F lim) (jI_mono hret (fun v u h => ?_)) n 0 (by omega) E _ 0 (fun m hm => ⟨(hEb m hm).1, hw.1 m hm⟩) zU_s (by have := tt_le n hn9; omega) (fun h => (hfc lim).mpr h) (fun h At' step' _ _ => ?_)
    · obtain ⟨⟨At, E, h1⟩, h2⟩ := h
      exact ⟨⟨_, O, Lf, At, E, h1⟩, h2⟩
    · refine j_iload_n C dX1_fitsBy_110 2 rfl ?_
      refine j_if_ne (tgt := 116) C dX1_fitsBy_111 (by decide) (by omega) (fun b2 => ?_) (fun b2 => ?_)
      · exact absurd rfl b2
      · refine j_iconst C dX1_fitsBy_114 ?_
        exact j_ret hret dX1_fitsBy_115 nz_0 (⟨⟨_, O, Lf, At', E, rfl⟩, Or.inr ⟨rfl, fun q => h ((hfc lim).mp q)⟩⟩)
  · have hw : ¬ ((∀ i, i < mc → E i ≤ lim) ∧ Lf 0 ≤ sm (fun i => lim - E i) mc) := by
      rcases hw with ⟨h, -⟩ | ⟨-, h⟩
      · omega
      · exact h
    refine j_iconst C dX1_fitsBy_13 ?_
    have hnf : ¬ Fits mc R L F lim := fun q => hw (by
      have q2 := (hfc lim).mp q
      refine ⟨can_le q2 (fun i => (hsb i).1), ?_⟩
      rw [(hLf 0 (by omega)).2]
      exact can_sum q2)
    exact j_ret hret dX1_fitsBy_14 nz_0 (⟨⟨_, O, Lf, At, E, rfl⟩, Or.inr ⟨rfl, hnf⟩⟩)
end Fit
end
section
/-! BatchAdmission: fitsWith, room, offer, withdraw, ready -/
set_option maxRecDepth 100000
/-- a BatchAdmission's world up to what the search leaves behind -/
def XS (d : ClassId) (a : Nat → Nat) (mc : Nat) (dl kn be : Int) (R L P : Nat → Int) (u : va_W) : Prop := ∃ (fr : Int) (F O Lf At E : Nat → Int), u = xw d a mc dl fr kn be R L F O Lf At E P
section Adm
variable {d : ClassId} {a : Nat → Nat} {mc : Nat} {dl fr kn be : Int} {R L F O Lf At E P : Nat → Int}
/-- fitsWith(more): 1 if some plan of the held jobs and one more of that length ends by the deadline -/
theorem m_fitsWith (l : Launch) (D : va_G) (w : Int) (hw : 1 ≤ w ∧ w ≤ 60) (hdl : 0 ≤ dl ∧ dl ≤ 300) (hmc1 : 1 ≤ mc) (hmc : mc ≤ 3) (hR : ∀ i, i < 3 → 0 ≤ R i ∧ R i ≤ 60) (hL : ∀ i, i < 9 → 0 ≤ L i ∧ L i ≤ 60) (h8 : L 8 = 0) : MI l yX1_fitsWith cX1_fitsWith 3 .boolean (rmd 3) D [(d, .int)] [.ref (a 0), .int (zI w)] (xw d a mc dl fr kn be R L F O Lf At E P) (fun v u => XS d a mc dl kn be R L P u ∧ ((v = 1 ∧ Fits mc R (zU L 8 w) (fun _ => -1) dl) ∨ (v = 0 ∧ ¬ Fits mc R (zU L 8 w) (fun _ => -1) dl))) := by
  refine mi_of RX1 rfl (by decide +kernel) (Nat.le_of_ble_eq_true rfl) (fun k hkl hkD C hret => ?_)
  show JJ k 0 0 (xw d a mc dl fr kn be R L F O Lf At E P) 0 [(0, .ref (a 0)), (1, .int (zI w))] []
  refine j_aload_n C dX1_fitsWith_0 0 rfl ?_
  refine j_callv (ci := 0) (n := 0) C (m_freeAll (kl k) (kD k)) q86 q88 qs2 q23 q89 (by decide +kernel) rfl rfl (by decide) rfl rfl (Nat.le_of_ble_eq_true rfl) dX1_fitsWith_1 (fun u hu => ?_)
  obtain ⟨F, rfl, hF⟩ := hu
  refine j_aload_n C dX1_fitsWith_4 0 rfl ?_
  refine j_get (ci := 0) (v := .ref (a 2)) C in_X1 0 rfl rfl 3 (by decide) q36 rfl rfl dX1_fitsWith_5 ?_
  refine j_bipush C dX1_fitsWith_8 (by decide +kernel) ?_
  refine j_iload_n C dX1_fitsWith_10 1 rfl ?_
  refine j_ast (f := L) (ws' := (xw d a mc dl fr kn be R (zU L 8 w) F O Lf At E P)) C 2 rfl rfl 8 (by omega) (by omega) (by decide) dX1_fitsWith_11 rfl ?_
  refine j_aload_n C dX1_fitsWith_12 0 rfl ?_
  refine j_aload_n C dX1_fitsWith_13 0 rfl ?_
  refine j_get (ci := 0) (v := .int (zI dl)) C in_X1 0 rfl rfl 1 (by decide) q34 rfl rfl dX1_fitsWith_14 ?_
  have hL' : ∀ i, i < 9 → 0 ≤ zU L 8 w i ∧ zU L 8 w i ≤ 60 := fun i hi => by
    by_cases e : i = 8
    · subst e; rw [zU_s]; omega
    · rw [zU_n e]; exact hL i hi
  refine j_calli (ci := 0) (n := 1) C (m_fitsBy (kl k) (kD k) dl (by omega) hmc hR hL' (fun i hi => by have := hF i hi; omega)) q90 q92 qs3 q23 q93 (by decide +kernel) rfl rfl (by decide) rfl rfl (Nat.le_of_ble_eq_true rfl) dX1_fitsWith_17 (fun v u hv => ?_)
  obtain ⟨⟨fr, O, Lf, At, E, rfl⟩, hv⟩ := hv
  refine j_istore_n (lv' := [(0, .ref (a 0)), (1, .int (zI w)), (2, .int (zI v))]) C dX1_fitsWith_20 (by decide) rfl rfl ?_
  refine j_aload_n C dX1_fitsWith_21 0 rfl ?_
  refine j_get (ci := 0) (v := .ref (a 2)) C in_X1 0 rfl rfl 3 (by decide) q36 rfl rfl dX1_fitsWith_22 ?_
  refine j_bipush C dX1_fitsWith_25 (by decide +kernel) ?_
  refine j_iconst C dX1_fitsWith_27 ?_
  refine j_ast (f := (zU L 8 w)) (ws' := (xw d a mc dl fr kn be R (zU (zU L 8 w) 8 0) F O Lf At E P)) C 2 rfl rfl 8 (by omega) (by omega) (by decide) dX1_fitsWith_28 rfl ?_
  rw [zU_back h8.symm]
  refine j_iload_n C dX1_fitsWith_29 2 rfl ?_
  have hv' : (v = 1 ∧ Fits mc R (zU L 8 w) (fun _ => -1) dl) ∨ (v = 0 ∧ ¬ Fits mc R (zU L 8 w) (fun _ => -1) dl) := by
    rcases hv with ⟨h1, h2⟩ | ⟨h1, h2⟩
    · exact Or.inl ⟨h1, fits_congr (fun j hj _ => hF j hj) h2⟩
    · exact Or.inr ⟨h1, fun q => h2 (fits_congr (fun j hj _ => (hF j hj).symm) q)⟩
  have hn : narrow .boolean (.int (zI v)) = .int (zI v) := by
    rcases hv with ⟨h1, -⟩ | ⟨h1, -⟩
    · rw [h1]; exact nz_1
    · rw [h1]; exact nz_0
  exact j_ret hret dX1_fitsWith_30 hn ⟨⟨fr, F, O, Lf, At, E, rfl⟩, hv'⟩
theorem l_room {k : JK} (C : jC k cX1_room 5 RX1 [(d, .int)] (rmd 4)) (hdl : 0 ≤ dl ∧ dl ≤ 300) (hmc1 : 1 ≤ mc) (hmc : mc ≤ 3) (hR : ∀ i, i < 3 → 0 ≤ R i ∧ R i ≤ 60) (hL : ∀ i, i < 9 → 0 ≤ L i ∧ L i ≤ 60) (h8 : L 8 = 0) (hret : jI k cX1_room .int (fun v u => XS d a mc dl kn be R L P u ∧ Rm mc R L dl v)) : ∀ (t step : Nat) (lo hi fr : Int) (F O Lf At E : Nat → Int), step + t = 6 → (0 ≤ lo ∧ lo ≤ hi ∧ hi ≤ 60) → hi - lo < ((2 ^ t : Nat) : Int) → (1 ≤ lo → Fits mc R (zU L 8 lo) (fun _ => -1) dl) → (∀ v, hi < v → v ≤ 60 → ¬ Fits mc R (zU L 8 v) (fun _ => -1) dl) → JJ k 0 0 (xw d a mc dl fr kn be R L F O Lf At E P) 7 [(0, .ref (a 0)), (1, .int (zI lo)), (2, .int (zI hi)), (3, .int (zI ((step : Nat) : Int)))] [] := by
  intro t
  induction t with
  | zero =>
    intro step lo hi fr F O Lf At E hst hb hw h1 h2
    have hp : ((2 ^ 0 : Nat) : Int) = 1 := rfl
    refine j_iload_n C dX1_room_7 3 rfl ?_
    refine j_bipush C dX1_room_8 (by decide +kernel) ?_
    refine j_icmp_ge (tgt := 53) C dX1_room_10 (by decide) (by omega) (by omega) (fun b1 => ?_) (fun b1 => ?_)
    · omega
    · refine j_iload_n C dX1_room_13 1 rfl ?_
      refine j_iload_n C dX1_room_14 2 rfl ?_
      refine j_icmp_ge (tgt := 53) C dX1_room_15 (by decide) (by omega) (by omega) (fun b2 => ?_) (fun b2 => ?_)
      · refine j_iload_n C dX1_room_53 1 rfl ?_
        have e : lo = hi := by omega
        subst e
        exact j_ret hret dX1_room_54 rfl (⟨⟨fr, F, O, Lf, At, E, rfl⟩, ⟨by omega, by omega⟩, h1, h2⟩)
      · omega
  | succ t ih =>
    intro step lo hi fr F O Lf At E hst hb hw h1 h2
    have hp : ((2 ^ (t + 1) : Nat) : Int) = ((2 ^ t : Nat) : Int) * 2 := by rw [Nat.pow_succ]; exact Int.natCast_mul _ _
    generalize hpw : ((2 ^ t : Nat) : Int) = pw at hp ih
    refine j_iload_n C dX1_room_7 3 rfl ?_
    refine j_bipush C dX1_room_8 (by decide +kernel) ?_
    refine j_icmp_ge (tgt := 53) C dX1_room_10 (by decide) (by omega) (by omega) (fun b1 => ?_) (fun b1 => ?_)
    · omega
    · refine j_iload_n C dX1_room_13 1 rfl ?_
      refine j_iload_n C dX1_room_14 2 rfl ?_
      refine j_icmp_ge (tgt := 53) C dX1_room_15 (by decide) (by omega) (by omega) (fun b2 => ?_) (fun b2 => ?_)
      · refine j_iload_n C dX1_room_53 1 rfl ?_
        have e : lo = hi := by omega
        subst e
        exact j_ret hret dX1_room_54 rfl (⟨⟨fr, F, O, Lf, At, E, rfl⟩, ⟨by omega, by omega⟩, h1, h2⟩)
      · refine j_iload_n C dX1_room_18 1 rfl ?_
        refine j_iload_n C dX1_room_19 2 rfl ?_
        refine j_iadd C dX1_room_20 ?_
        refine j_iconst C dX1_room_21 ?_
        refine j_iadd C dX1_room_22 ?_
        refine j_iconst C dX1_room_23 ?_
        refine j_idiv C dX1_room_24 (by omega) (by omega) ?_
        obtain ⟨mid, hmid⟩ : ∃ z : Int, z = ((lo + hi) + 1) / 2 := ⟨_, rfl⟩
        rw [← hmid]
        refine j_istore (lv' := [(0, .ref (a 0)), (1, .int (zI lo)), (2, .int (zI hi)), (3, .int (zI ((step : Nat) : Int))), (4, .int (zI mid))]) C dX1_room_25 (by decide) rfl rfl ?_
        refine j_aload_n C dX1_room_27 0 rfl ?_
        refine j_iload C dX1_room_28 4 rfl ?_
        refine j_calli (ci := 0) (n := 1) C (m_fitsWith (kl k) (kD k) mid (by omega) hdl hmc1 hmc hR hL h8) q82 q84 qs1 q23 q85 (by decide +kernel) rfl rfl (by decide) rfl rfl (Nat.le_of_ble_eq_true rfl) dX1_room_30 (fun v u hv => ?_)
        obtain ⟨⟨fr, F, O, Lf, At, E, rfl⟩, hv⟩ := hv
        have hvr : -2147483648 ≤ v ∧ v < 2147483648 := by rcases hv with ⟨h, -⟩ | ⟨h, -⟩ <;> omega
        refine j_if_eq (tgt := 42) C dX1_room_33 (by decide) (by omega) (fun b3 => ?_) (fun b3 => ?_)
        · have hnf : ¬ Fits mc R (zU L 8 mid) (fun _ => -1) dl := by
            rcases hv with ⟨h, -⟩ | ⟨-, h⟩
            · omega
            · exact h
          refine j_iload C dX1_room_42 4 rfl ?_
          refine j_iconst C dX1_room_44 ?_
          refine j_isub C dX1_room_45 ?_
          refine j_istore_n (lv' := [(0, .ref (a 0)), (1, .int (zI lo)), (2, .int (zI (mid - 1))), (3, .int (zI ((step : Nat) : Int))), (4, .int (zI mid))]) C dX1_room_46 (by decide) rfl rfl ?_
          refine j_iinc (lv' := [(0, .ref (a 0)), (1, .int (zI lo)), (2, .int (zI (mid - 1))), (3, .int (zI (((step + 1) : Nat) : Int))), (4, .int (zI mid))]) C (((step + 1) : Nat) : Int) dX1_room_47 3 rfl (by omega) (by decide) rfl rfl ?_
          refine j_goto (tgt := 7) C dX1_room_50 (by decide) ?_
          refine j_sub (lv' := [(0, .ref (a 0)), (1, .int (zI lo)), (2, .int (zI (mid - 1))), (3, .int (zI (((step + 1) : Nat) : Int)))]) [0, 1, 2, 3] rfl ?_
          exact ih (step + 1) lo (mid - 1) fr F O Lf At E (by omega) (by omega) (by omega) h1 (fun v hv1 hv2 hq => hnf (fit9_mono (by omega) (by omega) hq))
        · have hf : Fits mc R (zU L 8 mid) (fun _ => -1) dl := by
            rcases hv with ⟨-, h⟩ | ⟨h, -⟩
            · exact h
            · omega
          refine j_iload C dX1_room_36 4 rfl ?_
          refine j_istore_n (lv' := [(0, .ref (a 0)), (1, .int (zI mid)), (2, .int (zI hi)), (3, .int (zI ((step : Nat) : Int))), (4, .int (zI mid))]) C dX1_room_38 (by decide) rfl rfl ?_
          refine j_goto (tgt := 47) C dX1_room_39 (by decide) ?_
          refine j_iinc (lv' := [(0, .ref (a 0)), (1, .int (zI mid)), (2, .int (zI hi)), (3, .int (zI (((step + 1) : Nat) : Int))), (4, .int (zI mid))]) C (((step + 1) : Nat) : Int) dX1_room_47 3 rfl (by omega) (by decide) rfl rfl ?_
          refine j_goto (tgt := 7) C dX1_room_50 (by decide) ?_
          refine j_sub (lv' := [(0, .ref (a 0)), (1, .int (zI mid)), (2, .int (zI hi)), (3, .int (zI (((step + 1) : Nat) : Int)))]) [0, 1, 2, 3] rfl ?_
          exact ih (step + 1) mid hi fr F O Lf At E (by omega) (by omega) (by omega) (fun _ => hf) h2
/-- room(): the greatest length of one more job for which some plan ends in time, from 0 to 60 -/
theorem m_room (l : Launch) (D : va_G) (hdl : 0 ≤ dl ∧ dl ≤ 300) (hmc1 : 1 ≤ mc) (hmc : mc ≤ 3) (hR : ∀ i, i < 3 → 0 ≤ R i ∧ R i ≤ 60) (hL : ∀ i, i < 9 → 0 ≤ L i ∧ L i ≤ 60) (h8 : L 8 = 0) : MI l yX1_room cX1_room 5 .int (rmd 4) D [(d, .int)] [.ref (a 0)] (xw d a mc dl fr kn be R L F O Lf At E P) (fun v u => XS d a mc dl kn be R L P u ∧ Rm mc R L dl v) := by
  refine mi_of RX1 rfl (by decide +kernel) (Nat.le_of_ble_eq_true rfl) (fun k hkl hkD C hret => ?_)
  show JJ k 0 0 (xw d a mc dl fr kn be R L F O Lf At E P) 0 [(0, .ref (a 0))] []
  refine j_iconst C dX1_room_0 ?_
  refine j_istore_n (lv' := [(0, .ref (a 0)), (1, .int (zI 0))]) C dX1_room_1 (by decide) rfl rfl ?_
  refine j_bipush C dX1_room_2 (by decide +kernel) ?_
  refine j_istore_n (lv' := [(0, .ref (a 0)), (1, .int (zI 0)), (2, .int (zI 60))]) C dX1_room_4 (by decide) rfl rfl ?_
  refine j_iconst C dX1_room_5 ?_
  refine j_istore_n (lv' := [(0, .ref (a 0)), (1, .int (zI 0)), (2, .int (zI 60)), (3, .int (zI 0))]) C dX1_room_6 (by decide) rfl rfl ?_
  exact l_room C hdl hmc1 hmc hR hL h8 hret 6 0 0 60 fr F O Lf At E rfl (by omega) (by decide) (fun h => by omega) (fun v h1 h2 => by omega)
/-- what offer answers and does -/
def OfferQ (mc : Nat) (dl kn : Int) (R L : Nat → Int) (w v kn' : Int) (L' : Nat → Int) : Prop :=
  (¬ (1 ≤ w ∧ w ≤ 60) ∧ v = -2 ∧ kn' = kn ∧ L' = L) ∨ ((1 ≤ w ∧ w ≤ 60) ∧ (∀ i : Nat, i < 8 → L i ≠ 0) ∧ v = -3 ∧ kn' = kn ∧ L' = L) ∨
  ((1 ≤ w ∧ w ≤ 60) ∧ ∃ n : Nat, n < 8 ∧ L n = 0 ∧ (∀ i : Nat, i < n → L i ≠ 0) ∧ ((¬ Fits mc R (zU L 8 w) (fun _ => -1) dl ∧ v = -1 ∧ kn' = kn ∧ L' = L) ∨ (Fits mc R (zU L 8 w) (fun _ => -1) dl ∧ v = n ∧ kn' = 0 ∧ L' = zU L n w)))
theorem m_offer (l : Launch) (D : va_G) (w : Int) (hw : -2147483648 ≤ w ∧ w < 2147483648) (hdl : 0 ≤ dl ∧ dl ≤ 300) (hmc1 : 1 ≤ mc) (hmc : mc ≤ 3) (hR : ∀ i, i < 3 → 0 ≤ R i ∧ R i ≤ 60) (hL : ∀ i, i < 9 → 0 ≤ L i ∧ L i ≤ 60) (h8 : L 8 = 0) : MI l yX1_offer cX1_offer 3 .int (rmd 4) D [(d, .int)] [.ref (a 0), .int (zI w)] (xw d a mc dl fr kn be R L F O Lf At E P) (fun v u => ∃ (kn' : Int) (L' : Nat → Int), XS d a mc dl kn' be R L' P u ∧ OfferQ mc dl kn R L w v kn' L') := by
  refine mi_of RX1 rfl (by decide +kernel) (Nat.le_of_ble_eq_true rfl) (fun k hkl hkD C hret => ?_)
  show JJ k 0 0 (xw d a mc dl fr kn be R L F O Lf At E P) 0 [(0, .ref (a 0)), (1, .int (zI w))] []
  refine j_iload_n C dX1_offer_0 1 rfl ?_
  refine j_iconst C dX1_offer_1 ?_
  refine j_icmp_lt (tgt := 11) C dX1_offer_2 (by decide) (by omega) (by omega) (fun b1 => ?_) (fun b1 => ?_)
  · refine j_bipush C dX1_offer_11 (by decide +kernel) ?_
    exact j_ret hret dX1_offer_13 rfl (⟨kn, L, ⟨fr, F, O, Lf, At, E, rfl⟩, Or.inl ⟨by omega, rfl, rfl, rfl⟩⟩)
  · refine j_iload_n C dX1_offer_5 1 rfl ?_
    refine j_bipush C dX1_offer_6 (by decide +kernel) ?_
    refine j_icmp_le (tgt := 14) C dX1_offer_8 (by decide) (by omega) (by omega) (fun b2 => ?_) (fun b2 => ?_)
    · have hw6 : 1 ≤ w ∧ w ≤ 60 := by omega
      refine j_aload_n C dX1_offer_14 0 rfl ?_
      refine j_calli (ci := 0) (n := 0) C (m_freeNumber (kl k) (kD k) hL) q78 q80 qs0 q23 q81 (by decide +kernel) rfl rfl (by decide) rfl rfl (Nat.le_of_ble_eq_true rfl) dX1_offer_15 (fun v u hv => ?_)
      obtain ⟨rfl, hv⟩ := hv
      have hvr : -1 ≤ v ∧ v < 8 := by rcases hv with ⟨h, -⟩ | ⟨n, h1, h2, -⟩ <;> omega
      refine j_istore_n (lv' := [(0, .ref (a 0)), (1, .int (zI w)), (2, .int (zI v))]) C dX1_offer_18 (by decide) rfl rfl ?_
      refine j_iload_n C dX1_offer_19 2 rfl ?_
      refine j_if_ge (tgt := 26) C dX1_offer_20 (by decide) (by omega) (fun b3 => ?_) (fun b3 => ?_)
      · have hv' : ∃ n : Nat, n < 8 ∧ v = n ∧ L n = 0 ∧ ∀ i : Nat, i < n → L i ≠ 0 := by
          rcases hv with ⟨h, -⟩ | h
          · omega
          · exact h
        obtain ⟨n, hn, rfl, hLn, hfirst⟩ := hv'
        refine j_aload_n C dX1_offer_26 0 rfl ?_
        refine j_iload_n C dX1_offer_27 1 rfl ?_
        refine j_calli (ci := 0) (n := 1) C (m_fitsWith (kl k) (kD k) w hw6 hdl hmc1 hmc hR hL h8) q82 q84 qs1 q23 q85 (by decide +kernel) rfl rfl (by decide) rfl rfl (Nat.le_of_ble_eq_true rfl) dX1_offer_28 (fun v u hv => ?_)
        obtain ⟨⟨fr, F, O, Lf, At, E, rfl⟩, hv⟩ := hv
        have hvr : -2147483648 ≤ v ∧ v < 2147483648 := by rcases hv with ⟨h, -⟩ | ⟨h, -⟩ <;> omega
        refine j_if_ne (tgt := 36) C dX1_offer_31 (by decide) (by omega) (fun b4 => ?_) (fun b4 => ?_)
        · have hf : Fits mc R (zU L 8 w) (fun _ => -1) dl := by
            rcases hv with ⟨-, h⟩ | ⟨h, -⟩
            · exact h
            · omega
          refine j_aload_n C dX1_offer_36 0 rfl ?_
          refine j_get (ci := 0) (v := .ref (a 2)) C in_X1 0 rfl rfl 3 (by decide) q36 rfl rfl dX1_offer_37 ?_
          refine j_iload_n C dX1_offer_40 2 rfl ?_
          refine j_iload_n C dX1_offer_41 1 rfl ?_
          refine j_ast (f := L) (ws' := (xw d a mc dl fr kn be R (zU L n w) F O Lf At E P)) C 2 rfl rfl n (by omega) (by omega) (by decide) dX1_offer_42 rfl ?_
          refine j_aload_n C dX1_offer_43 0 rfl ?_
          refine j_iconst C dX1_offer_44 ?_
          refine j_put (ci := 0) (ws' := (xw d a mc dl fr 0 be R (zU L n w) F O Lf At E P)) C in_X1 tyX1 tyX1_ok nmX1 0 rfl rfl 10 (by decide) q43 rfl rfl nz_0 nf_0 (Nat.le_of_ble_eq_true rfl) dX1_offer_45 rfl ?_
          refine j_iload_n C dX1_offer_48 2 rfl ?_
          exact j_ret hret dX1_offer_49 rfl (⟨0, zU L n w, ⟨fr, F, O, Lf, At, E, rfl⟩, Or.inr (Or.inr ⟨hw6, n, hn, hLn, hfirst, Or.inr ⟨hf, rfl, rfl, rfl⟩⟩)⟩)
        · have hnf : ¬ Fits mc R (zU L 8 w) (fun _ => -1) dl := by
            rcases hv with ⟨h, -⟩ | ⟨-, h⟩
            · omega
            · exact h
          refine j_iconst C dX1_offer_34 ?_
          exact j_ret hret dX1_offer_35 rfl (⟨kn, L, ⟨fr, F, O, Lf, At, E, rfl⟩, Or.inr (Or.inr ⟨hw6, n, hn, hLn, hfirst, Or.inl ⟨hnf, rfl, rfl, rfl⟩⟩)⟩)
      · have hv' : ∀ i : Nat, i < 8 → L i ≠ 0 := by
          rcases hv with ⟨-, h⟩ | ⟨n, h1, h2, -⟩
          · exact h
          · omega
        refine j_bipush C dX1_offer_23 (by decide +kernel) ?_
        exact j_ret hret dX1_offer_25 rfl (⟨kn, L, ⟨fr, F, O, Lf, At, E, rfl⟩, Or.inr (Or.inl ⟨hw6, hv', rfl, rfl, rfl⟩)⟩)
    · refine j_bipush C dX1_offer_11 (by decide +kernel) ?_
      exact j_ret hret dX1_offer_13 rfl (⟨kn, L, ⟨fr, F, O, Lf, At, E, rfl⟩, Or.inl ⟨by omega, rfl, rfl, rfl⟩⟩)
/-- withdraw(job): the held job's length, which becomes 0; -2 if none is held -/
theorem m_withdraw (l : Launch) (D : va_G) (j : Int) (hj : -2147483648 ≤ j ∧ j < 2147483648) (hL : ∀ i, i < 9 → 0 ≤ L i ∧ L i ≤ 60) : MI l yX1_withdraw cX1_withdraw 3 .int (rmd 1) D [(d, .int)] [.ref (a 0), .int (zI j)] (xw d a mc dl fr kn be R L F O Lf At E P) (fun v u => ∃ (kn' : Int) (L' : Nat → Int), XS d a mc dl kn' be R L' P u ∧ (((¬ ∃ n : Nat, n < 8 ∧ j = n ∧ 0 < L n) ∧ v = -2 ∧ kn' = kn ∧ L' = L) ∨ ∃ n : Nat, n < 8 ∧ j = n ∧ 0 < L n ∧ v = L n ∧ kn' = 0 ∧ L' = zU L n 0)) := by
  refine mi_of RX1 rfl (by decide +kernel) (Nat.le_of_ble_eq_true rfl) (fun k hkl hkD C hret => ?_)
  show JJ k 0 0 (xw d a mc dl fr kn be R L F O Lf At E P) 0 [(0, .ref (a 0)), (1, .int (zI j))] []
  refine j_aload_n C dX1_withdraw_0 0 rfl ?_
  refine j_iload_n C dX1_withdraw_1 1 rfl ?_
  refine j_calli (ci := 0) (n := 1) C (m_isHeld (kl k) (kD k) j hj hL) q119 q121 qs9 q23 q122 (by decide +kernel) rfl rfl (by decide) rfl rfl (Nat.le_of_ble_eq_true rfl) dX1_withdraw_2 (fun v u hv => ?_)
  obtain ⟨rfl, hv⟩ := hv
  have hvr : -2147483648 ≤ v ∧ v < 2147483648 := by rcases hv with ⟨h, -⟩ | ⟨h, -⟩ <;> omega
  refine j_if_ne (tgt := 11) C dX1_withdraw_5 (by decide) (by omega) (fun b1 => ?_) (fun b1 => ?_)
  · have hv' : ∃ n : Nat, n < 8 ∧ j = n ∧ 0 < L n := by
      rcases hv with ⟨-, h⟩ | ⟨h, -⟩
      · exact h
      · omega
    obtain ⟨n, hn, rfl, hLn⟩ := hv'
    refine j_aload_n C dX1_withdraw_11 0 rfl ?_
    refine j_get (ci := 0) (v := .ref (a 2)) C in_X1 0 rfl rfl 3 (by decide) q36 rfl rfl dX1_withdraw_12 ?_
    refine j_iload_n C dX1_withdraw_15 1 rfl ?_
    refine j_ald (f := L) (v := (L n)) C 2 rfl rfl n (by omega) (by omega) (by decide) rfl dX1_withdraw_16 ?_
    refine j_istore_n (lv' := [(0, .ref (a 0)), (1, .int (zI ((n : Nat) : Int))), (2, .int (zI (L n)))]) C dX1_withdraw_17 (by decide) rfl rfl ?_
    refine j_aload_n C dX1_withdraw_18 0 rfl ?_
    refine j_get (ci := 0) (v := .ref (a 2)) C in_X1 0 rfl rfl 3 (by decide) q36 rfl rfl dX1_withdraw_19 ?_
    refine j_iload_n C dX1_withdraw_22 1 rfl ?_
    refine j_iconst C dX1_withdraw_23 ?_
    refine j_ast (f := L) (ws' := (xw d a mc dl fr kn be R (zU L n 0) F O Lf At E P)) C 2 rfl rfl n (by omega) (by omega) (by decide) dX1_withdraw_24 rfl ?_
    refine j_aload_n C dX1_withdraw_25 0 rfl ?_
    refine j_iconst C dX1_withdraw_26 ?_
    refine j_put (ci := 0) (ws' := (xw d a mc dl fr 0 be R (zU L n 0) F O Lf At E P)) C in_X1 tyX1 tyX1_ok nmX1 0 rfl rfl 10 (by decide) q43 rfl rfl nz_0 nf_0 (Nat.le_of_ble_eq_true rfl) dX1_withdraw_27 rfl ?_
    refine j_iload_n C dX1_withdraw_30 2 rfl ?_
    exact j_ret hret dX1_withdraw_31 rfl (⟨0, zU L n 0, ⟨fr, F, O, Lf, At, E, rfl⟩, Or.inr ⟨n, hn, rfl, hLn, rfl, rfl, rfl⟩⟩)
  · have hv' : ¬ ∃ n : Nat, n < 8 ∧ j = n ∧ 0 < L n := by
      rcases hv with ⟨h, -⟩ | ⟨-, h⟩
      · omega
      · exact h
    refine j_bipush C dX1_withdraw_8 (by decide +kernel) ?_
    exact j_ret hret dX1_withdraw_10 rfl (⟨kn, L, ⟨fr, F, O, Lf, At, E, rfl⟩, Or.inl ⟨hv', rfl, rfl, rfl⟩⟩)
def clamp60 (t : Int) : Int := if t < 0 then 0 else if 60 < t then 60 else t
/-- ready(machine, time): the machine's ready time before; it becomes time, held to 0..60 -/
theorem m_ready (l : Launch) (D : va_G) (j t : Int) (hj : -2147483648 ≤ j ∧ j < 2147483648) (ht : -2147483648 ≤ t ∧ t < 2147483648) (hmc : mc ≤ 3) : MI l yX1_ready cX1_ready 4 .int (rmd 0) D [(d, .int)] [.ref (a 0), .int (zI j), .int (zI t)] (xw d a mc dl fr kn be R L F O Lf At E P) (fun v u => ∃ (kn' : Int) (R' : Nat → Int), XS d a mc dl kn' be R' L P u ∧ ((¬ (0 ≤ j ∧ j < mc) ∧ v = -2 ∧ kn' = kn ∧ R' = R) ∨ ∃ n : Nat, n < mc ∧ j = n ∧ v = R n ∧ kn' = 0 ∧ R' = zU R n (clamp60 t))) := by
  refine mi_of RX1 rfl (by decide +kernel) (Nat.le_of_ble_eq_true rfl) (fun k hkl hkD C hret => ?_)
  show JJ k 0 0 (xw d a mc dl fr kn be R L F O Lf At E P) 0 [(0, .ref (a 0)), (1, .int (zI j)), (2, .int (zI t))] []
  refine j_iload_n C dX1_ready_0 1 rfl ?_
  refine j_if_lt (tgt := 12) C dX1_ready_1 (by decide) (by omega) (fun b1 => ?_) (fun b1 => ?_)
  · refine j_bipush C dX1_ready_12 (by decide +kernel) ?_
    exact j_ret hret dX1_ready_14 rfl (⟨kn, R, ⟨fr, F, O, Lf, At, E, rfl⟩, Or.inl ⟨by omega, rfl, rfl, rfl⟩⟩)
  · refine j_iload_n C dX1_ready_4 1 rfl ?_
    refine j_aload_n C dX1_ready_5 0 rfl ?_
    refine j_get (ci := 0) (v := .int (zI ((mc : Nat) : Int))) C in_X1 0 rfl rfl 0 (by decide) q33 rfl rfl dX1_ready_6 ?_
    refine j_icmp_lt (tgt := 15) C dX1_ready_9 (by decide) (by omega) (by omega) (fun b2 => ?_) (fun b2 => ?_)
    · obtain ⟨n, rfl⟩ : ∃ n : Nat, j = n := ⟨j.toNat, by omega⟩
      refine j_aload_n C dX1_ready_15 0 rfl ?_
      refine j_get (ci := 0) (v := .ref (a 1)) C in_X1 0 rfl rfl 2 (by decide) q35 rfl rfl dX1_ready_16 ?_
      refine j_iload_n C dX1_ready_19 1 rfl ?_
      refine j_ald (f := R) (v := (R n)) C 1 rfl rfl n (by omega) (by omega) (by decide) rfl dX1_ready_20 ?_
      refine j_istore_n (lv' := [(0, .ref (a 0)), (1, .int (zI ((n : Nat) : Int))), (2, .int (zI t)), (3, .int (zI (R n)))]) C dX1_ready_21 (by decide) rfl rfl ?_
      refine j_aload_n C dX1_ready_22 0 rfl ?_
      refine j_get (ci := 0) (v := .ref (a 1)) C in_X1 0 rfl rfl 2 (by decide) q35 rfl rfl dX1_ready_23 ?_
      refine j_iload_n C dX1_ready_26 1 rfl ?_
      refine j_iload_n C dX1_ready_27 2 rfl ?_
      refine j_if_ge (tgt := 35) C dX1_ready_28 (by decide) (by omega) (fun b3 => ?_) (fun b3 => ?_)
      · refine j_iload_n C dX1_ready_35 2 rfl ?_
        refine j_bipush C dX1_ready_36 (by decide +kernel) ?_
        refine j_icmp_le (tgt := 46) C dX1_ready_38 (by decide) (by omega) (by omega) (fun b4 => ?_) (fun b4 => ?_)
        · refine j_iload_n C dX1_ready_46 2 rfl ?_
          refine j_ast (f := R) (ws' := (xw d a mc dl fr kn be (zU R n t) L F O Lf At E P)) C 1 rfl rfl n (by omega) (by omega) (by decide) dX1_ready_47 rfl ?_
          refine j_aload_n C dX1_ready_48 0 rfl ?_
          refine j_iconst C dX1_ready_49 ?_
          refine j_put (ci := 0) (ws' := (xw d a mc dl fr 0 be (zU R n t) L F O Lf At E P)) C in_X1 tyX1 tyX1_ok nmX1 0 rfl rfl 10 (by decide) q43 rfl rfl nz_0 nf_0 (Nat.le_of_ble_eq_true rfl) dX1_ready_50 rfl ?_
          refine j_iload_n C dX1_ready_53 3 rfl ?_
          exact j_ret hret dX1_ready_54 rfl (⟨0, _, ⟨fr, F, O, Lf, At, E, rfl⟩, Or.inr ⟨n, by omega, rfl, rfl, rfl, by unfold clamp60; rw [if_neg (by omega), if_neg (by omega)]⟩⟩)
        · refine j_bipush C dX1_ready_41 (by decide +kernel) ?_
          refine j_goto (tgt := 47) C dX1_ready_43 (by decide) ?_
          refine j_ast (f := R) (ws' := (xw d a mc dl fr kn be (zU R n 60) L F O Lf At E P)) C 1 rfl rfl n (by omega) (by omega) (by decide) dX1_ready_47 rfl ?_
          refine j_aload_n C dX1_ready_48 0 rfl ?_
          refine j_iconst C dX1_ready_49 ?_
          refine j_put (ci := 0) (ws' := (xw d a mc dl fr 0 be (zU R n 60) L F O Lf At E P)) C in_X1 tyX1 tyX1_ok nmX1 0 rfl rfl 10 (by decide) q43 rfl rfl nz_0 nf_0 (Nat.le_of_ble_eq_true rfl) dX1_ready_50 rfl ?_
          refine j_iload_n C dX1_ready_53 3 rfl ?_
          exact j_ret hret dX1_ready_54 rfl (⟨0, _, ⟨fr, F, O, Lf, At, E, rfl⟩, Or.inr ⟨n, by omega, rfl, rfl, rfl, by unfold clamp60; rw [if_neg (by omega), if_pos (by omega)]⟩⟩)
      · refine j_iconst C dX1_ready_31 ?_
        refine j_goto (tgt := 47) C dX1_ready_32 (by decide) ?_
        refine j_ast (f := R) (ws' := (xw d a mc dl fr kn be (zU R n 0) L F O Lf At E P)) C 1 rfl rfl n (by omega) (by omega) (by decide) dX1_ready_47 rfl ?_
        refine j_aload_n C dX1_ready_48 0 rfl ?_
        refine j_iconst C dX1_ready_49 ?_
        refine j_put (ci := 0) (ws' := (xw d a mc dl fr 0 be (zU R n 0) L F O Lf At E P)) C in_X1 tyX1 tyX1_ok nmX1 0 rfl rfl 10 (by decide) q43 rfl rfl nz_0 nf_0 (Nat.le_of_ble_eq_true rfl) dX1_ready_50 rfl ?_
        refine j_iload_n C dX1_ready_53 3 rfl ?_
        exact j_ret hret dX1_ready_54 rfl (⟨0, _, ⟨fr, F, O, Lf, At, E, rfl⟩, Or.inr ⟨n, by omega, rfl, rfl, rfl, by unfold clamp60; rw [if_pos (by omega)]⟩⟩)
    · refine j_bipush C dX1_ready_12 (by decide +kernel) ?_
      exact j_ret hret dX1_ready_14 rfl (⟨kn, R, ⟨fr, F, O, Lf, At, E, rfl⟩, Or.inl ⟨by omega, rfl, rfl, rfl⟩⟩)
end Adm
end
section
/-! BatchAdmission: lowerBound, longestFirst, findLeastEnd -/
set_option maxRecDepth 100000
theorem sm_delta {w v : Int} : ∀ {n : Nat}, 0 ≤ w → w < n → sm (fun m => if w = (m : Int) then v else 0) n = v
  | 0, h1, h2 => by omega
  | n + 1, h1, h2 => by
    rw [sm_s]
    by_cases e : w = (n : Int)
    · rw [if_pos e, sm_congr (g := fun _ => 0) (fun i hi => if_neg (by omega)), sm_z]
      omega
    · rw [if_neg e, sm_delta h1 (by omega)]
      omega
theorem ld_sum {mc : Nat} {R ℓ g : Nat → Int} : ∀ {n : Nat}, (∀ j, j < n → 0 < ℓ j → 0 ≤ g j ∧ g j < mc) → (∀ j, j < n → 0 ≤ ℓ j) → sm (fun m => ld R ℓ g m n) mc = sm R mc + sm ℓ n
  | 0, _, _ => by
    rw [sm_0, sm_congr (g := R) (fun i _ => by show R i + 0 = R i; omega)]
    omega
  | n + 1, h1, h2 => by
    have ih := ld_sum (R := R) (n := n) (fun j hj => h1 j (by omega)) (fun j hj => h2 j (by omega))
    rw [sm_congr (f := fun m => ld R ℓ g m (n + 1)) (g := fun m => ld R ℓ g m n + (if g n = (m : Int) then ℓ n else 0)) (fun i _ => (Int.add_assoc _ _ _).symm), sm_add, ih, sm_s]
    have h3 := h2 n (by omega)
    by_cases p : 0 < ℓ n
    · have h4 := h1 n (by omega) p
      rw [sm_delta h4.1 h4.2]
      omega
    · have hz : ℓ n = 0 := by omega
      rw [hz, sm_congr (f := fun m : Nat => if g n = (m : Int) then (0 : Int) else 0) (g := fun _ => 0) (fun i _ => by show (if g n = (i : Int) then (0 : Int) else 0) = 0; split <;> rfl), sm_z]
      omega
theorem div_le {s lim c : Int} (hc : c = 1 ∨ c = 2 ∨ c = 3) (h : s ≤ c * lim) : (s + c - 1) / c ≤ lim := by
  rcases hc with rfl | rfl | rfl <;> omega
theorem lb_share {mc : Nat} {R ℓ F : Nat → Int} {lim : Int} (hmc1 : 1 ≤ mc) (hmc : mc ≤ 3) (hl : ∀ j, j < 9 → 0 ≤ ℓ j) (h : Fits mc R ℓ F lim) : (sm R mc + sm ℓ 8 + (mc : Int) - 1) / (mc : Int) ≤ lim := by
  obtain ⟨g, g1, g2⟩ := h
  refine div_le (by omega) ?_
  have h1 := ld_sum (R := R) (n := 9) (fun j hj p => (g1 j hj p).1) hl
  have h2 : sm (fun m => ld R ℓ g m 9) mc ≤ mc * lim := sm_ub g2
  have h3 : sm ℓ 9 = sm ℓ 8 + ℓ 8 := rfl
  have h4 := hl 8 (by omega)
  omega
theorem lb_job {mc : Nat} {R ℓ F : Nat → Int} {lim ea : Int} {j : Nat} (hl : ∀ j, j < 9 → 0 ≤ ℓ j) (he : ∀ i, i < mc → ea ≤ R i) (hj : j < 9) (hp : 0 < ℓ j) (h : Fits mc R ℓ F lim) : ea + ℓ j ≤ lim := by
  obtain ⟨g, g1, g2⟩ := h
  have h1 := (g1 j hj hp).1
  have h2 := g2 (g j).toNat (by omega)
  have h3 := he (g j).toNat (by omega)
  unfold ld at h2
  have h4 := sm_one (f := fun z => if g z = (((g j).toNat : Nat) : Int) then ℓ z else 0) (n := 9) (j := j) (fun i hi => by
    have := hl i hi
    show 0 ≤ if g i = (((g j).toNat : Nat) : Int) then ℓ i else 0
    split <;> omega) hj
  have h5 : (if g j = (((g j).toNat : Nat) : Int) then ℓ j else 0) = ℓ j := if_pos (by omega)
  rw [h5] at h4
  omega
theorem lb_R {mc : Nat} {R ℓ F : Nat → Int} {lim : Int} {m : Nat} (hl : ∀ j, j < 9 → 0 ≤ ℓ j) (hm : m < mc) (h : Fits mc R ℓ F lim) : R m ≤ lim := by
  obtain ⟨g, g1, g2⟩ := h
  have h2 := g2 m hm
  unfold ld at h2
  have h3 : 0 ≤ sm (fun z => if g z = (m : Int) then ℓ z else 0) 9 := sm_nn (fun i hi => by
    have := hl i hi
    show 0 ≤ if g i = (m : Int) then ℓ i else 0
    split <;> omega)
  omega
section Least
variable {d : ClassId} {a : Nat → Nat} {mc : Nat} {dl fr kn be : Int} {R L F O Lf At E P : Nat → Int}
/-- a bound that no plan goes below -/
def LB (mc : Nat) (R L F : Nat → Int) (v : Int) : Prop := (0 ≤ v ∧ v ≤ 1000) ∧ ∀ lim, Fits mc R L F lim → v ≤ lim
theorem l_lowerBound2 {k : JK} {rm : Room} (C : jC k cX1_lowerBound 6 RX1 [(d, .int)] rm) (hmc1 : 1 ≤ mc) (hmc : mc ≤ 3) (hR : ∀ i, i < 3 → 0 ≤ R i ∧ R i ≤ 60) (hL : ∀ i, i < 9 → 0 ≤ L i ∧ L i ≤ 60) (ea : Int) (hea : 0 ≤ ea ∧ ea ≤ 60) (hea2 : ∀ i, i < mc → ea ≤ R i) (hret : jI k cX1_lowerBound .int (fun v u => u = xw d a mc dl fr kn be R L F O Lf At E P ∧ LB mc R L F v)) : ∀ (n j : Nat) (su mo : Int), j ≤ 8 → 8 - j < n → su = sm R mc + sm L j → LB mc R L F mo → JJ k 0 0 (xw d a mc dl fr kn be R L F O Lf At E P) 84 [(0, .ref (a 0)), (1, .int (zI su)), (2, .int (zI mo)), (3, .int (zI ea)), (4, .int (zI ((j : Nat) : Int)))] [] := by
  intro n
  induction n with
  | zero => intro j su mo h1 h2; omega
  | succ n ih =>
    intro j su mo hj hn hs hm
    have hmb := hm.1
    refine j_iload C dX1_lowerBound_84 4 rfl ?_
    refine j_bipush C dX1_lowerBound_86 (by decide +kernel) ?_
    refine j_icmp_ge (tgt := 145) C dX1_lowerBound_88 (by decide) (by omega) (by omega) (fun b1 => ?_) (fun b1 => ?_)
    · have ej : j = 8 := by omega
      subst ej
      have s1 : 0 ≤ sm R mc := sm_nn (fun i hi => (hR i (by omega)).1)
      have s2 : sm R mc ≤ mc * 60 := sm_ub (fun i hi => (hR i (by omega)).2)
      have s3 : 0 ≤ sm L 8 := sm_nn (fun i hi => (hL i (by omega)).1)
      have s4 : sm L 8 ≤ (8 : Nat) * 60 := sm_ub (fun i hi => (hL i (by omega)).2)
      refine j_iload_n C dX1_lowerBound_145 1 rfl ?_
      refine j_aload_n C dX1_lowerBound_146 0 rfl ?_
      refine j_get (ci := 0) (v := .int (zI ((mc : Nat) : Int))) C in_X1 0 rfl rfl 0 (by decide) q33 rfl rfl dX1_lowerBound_147 ?_
      refine j_iadd C dX1_lowerBound_150 ?_
      refine j_iconst C dX1_lowerBound_151 ?_
      refine j_isub C dX1_lowerBound_152 ?_
      refine j_aload_n C dX1_lowerBound_153 0 rfl ?_
      refine j_get (ci := 0) (v := .int (zI ((mc : Nat) : Int))) C in_X1 0 rfl rfl 0 (by decide) q33 rfl rfl dX1_lowerBound_154 ?_
      refine j_idiv C dX1_lowerBound_157 (by omega) (by omega) ?_
      obtain ⟨sh, hsh⟩ : ∃ z : Int, z = (su + ((mc : Nat) : Int) - 1) / ((mc : Nat) : Int) := ⟨_, rfl⟩
      have sh0 : 0 ≤ sh := by rw [hsh]; exact Int.ediv_nonneg (by omega) (by omega)
      have sh1 : sh ≤ su + ((mc : Nat) : Int) - 1 := by rw [hsh]; exact Int.ediv_le_self _ (by omega)
      have hLB : LB mc R L F sh := ⟨by omega, fun lim hq => by rw [hsh, hs]; exact lb_share hmc1 hmc (fun j hj => (hL j hj).1) hq⟩
      rw [← hsh]
      refine j_istore (lv' := [(0, .ref (a 0)), (1, .int (zI su)), (2, .int (zI mo)), (3, .int (zI ea)), (4, .int (zI sh))]) C dX1_lowerBound_158 (by decide) rfl rfl ?_
      refine j_iload C dX1_lowerBound_160 4 rfl ?_
      refine j_iload_n C dX1_lowerBound_162 2 rfl ?_
      refine j_icmp_le (tgt := 171) C dX1_lowerBound_163 (by decide) (by omega) (by omega) (fun b2 => ?_) (fun b2 => ?_)
      · refine j_iload_n C dX1_lowerBound_171 2 rfl ?_
        exact j_ret hret dX1_lowerBound_172 rfl (⟨rfl, hm⟩)
      · refine j_iload C dX1_lowerBound_166 4 rfl ?_
        refine j_goto (tgt := 172) C dX1_lowerBound_168 (by decide) ?_
        exact j_ret hret dX1_lowerBound_172 rfl (⟨rfl, hLB⟩)
    · have hLj := hL j (by omega)
      have hs' : su + L j = sm R mc + sm L (j + 1) := by rw [sm_s, hs]; omega
      refine j_iload_n C dX1_lowerBound_91 1 rfl ?_
      refine j_aload_n C dX1_lowerBound_92 0 rfl ?_
      refine j_get (ci := 0) (v := .ref (a 2)) C in_X1 0 rfl rfl 3 (by decide) q36 rfl rfl dX1_lowerBound_93 ?_
      refine j_iload C dX1_lowerBound_96 4 rfl ?_
      refine j_ald (f := L) (v := (L j)) C 2 rfl rfl j (by omega) (by omega) (by decide) rfl dX1_lowerBound_98 ?_
      refine j_iadd C dX1_lowerBound_99 ?_
      refine j_istore_n (lv' := [(0, .ref (a 0)), (1, .int (zI (su + (L j)))), (2, .int (zI mo)), (3, .int (zI ea)), (4, .int (zI ((j : Nat) : Int)))]) C dX1_lowerBound_100 (by decide) rfl rfl ?_
      refine j_aload_n C dX1_lowerBound_101 0 rfl ?_
      refine j_get (ci := 0) (v := .ref (a 2)) C in_X1 0 rfl rfl 3 (by decide) q36 rfl rfl dX1_lowerBound_102 ?_
      refine j_iload C dX1_lowerBound_105 4 rfl ?_
      refine j_ald (f := L) (v := (L j)) C 2 rfl rfl j (by omega) (by omega) (by decide) rfl dX1_lowerBound_107 ?_
      refine j_if_ne (tgt := 115) C dX1_lowerBound_108 (by decide) (by omega) (fun b2 => ?_) (fun b2 => ?_)
      · have hal : LB mc R L F (ea + L j) := ⟨by omega, fun lim hq => lb_job (fun j hj => (hL j hj).1) hea2 (by omega) (by omega) hq⟩
        refine j_iload_n C dX1_lowerBound_115 3 rfl ?_
        refine j_aload_n C dX1_lowerBound_116 0 rfl ?_
        refine j_get (ci := 0) (v := .ref (a 2)) C in_X1 0 rfl rfl 3 (by decide) q36 rfl rfl dX1_lowerBound_117 ?_
        refine j_iload C dX1_lowerBound_120 4 rfl ?_
        refine j_ald (f := L) (v := (L j)) C 2 rfl rfl j (by omega) (by omega) (by decide) rfl dX1_lowerBound_122 ?_
        refine j_iadd C dX1_lowerBound_123 ?_
        refine j_istore (lv' := [(0, .ref (a 0)), (1, .int (zI (su + (L j)))), (2, .int (zI mo)), (3, .int (zI ea)), (4, .int (zI ((j : Nat) : Int))), (5, .int (zI (ea + (L j))))]) C dX1_lowerBound_124 (by decide) rfl rfl ?_
        refine j_iload C dX1_lowerBound_126 5 rfl ?_
        refine j_iload_n C dX1_lowerBound_128 2 rfl ?_
        refine j_icmp_le (tgt := 137) C dX1_lowerBound_129 (by decide) (by omega) (by omega) (fun b3 => ?_) (fun b3 => ?_)
        · refine j_iload_n C dX1_lowerBound_137 2 rfl ?_
          refine j_istore_n (lv' := [(0, .ref (a 0)), (1, .int (zI (su + (L j)))), (2, .int (zI mo)), (3, .int (zI ea)), (4, .int (zI ((j : Nat) : Int))), (5, .int (zI (ea + (L j))))]) C dX1_lowerBound_138 (by decide) rfl rfl ?_
          refine j_iinc (lv' := [(0, .ref (a 0)), (1, .int (zI (su + (L j)))), (2, .int (zI mo)), (3, .int (zI ea)), (4, .int (zI (((j + 1) : Nat) : Int))), (5, .int (zI (ea + (L j))))]) C (((j + 1) : Nat) : Int) dX1_lowerBound_139 4 rfl (by omega) (by decide) rfl rfl ?_
          refine j_goto (tgt := 84) C dX1_lowerBound_142 (by decide) ?_
          refine j_sub (lv' := [(0, .ref (a 0)), (1, .int (zI (su + (L j)))), (2, .int (zI mo)), (3, .int (zI ea)), (4, .int (zI (((j + 1) : Nat) : Int)))]) [0, 1, 2, 3, 4] rfl ?_
          exact ih (j + 1) _ _ (by omega) (by omega) hs' hm
        · refine j_iload C dX1_lowerBound_132 5 rfl ?_
          refine j_goto (tgt := 138) C dX1_lowerBound_134 (by decide) ?_
          refine j_istore_n (lv' := [(0, .ref (a 0)), (1, .int (zI (su + (L j)))), (2, .int (zI (ea + (L j)))), (3, .int (zI ea)), (4, .int (zI ((j : Nat) : Int))), (5, .int (zI (ea + (L j))))]) C dX1_lowerBound_138 (by decide) rfl rfl ?_
          refine j_iinc (lv' := [(0, .ref (a 0)), (1, .int (zI (su + (L j)))), (2, .int (zI (ea + (L j)))), (3, .int (zI ea)), (4, .int (zI (((j + 1) : Nat) : Int))), (5, .int (zI (ea + (L j))))]) C (((j + 1) : Nat) : Int) dX1_lowerBound_139 4 rfl (by omega) (by decide) rfl rfl ?_
          refine j_goto (tgt := 84) C dX1_lowerBound_142 (by decide) ?_
          refine j_sub (lv' := [(0, .ref (a 0)), (1, .int (zI (su + (L j)))), (2, .int (zI (ea + (L j)))), (3, .int (zI ea)), (4, .int (zI (((j + 1) : Nat) : Int)))]) [0, 1, 2, 3, 4] rfl ?_
          exact ih (j + 1) _ _ (by omega) (by omega) hs' hal
      · refine j_iconst C dX1_lowerBound_111 ?_
        refine j_goto (tgt := 124) C dX1_lowerBound_112 (by decide) ?_
        refine j_istore (lv' := [(0, .ref (a 0)), (1, .int (zI (su + (L j)))), (2, .int (zI mo)), (3, .int (zI ea)), (4, .int (zI ((j : Nat) : Int))), (5, .int (zI 0))]) C dX1_lowerBound_124 (by decide) rfl rfl ?_
        refine j_iload C dX1_lowerBound_126 5 rfl ?_
        refine j_iload_n C dX1_lowerBound_128 2 rfl ?_
        refine j_icmp_le (tgt := 137) C dX1_lowerBound_129 (by decide) (by omega) (by omega) (fun b3 => ?_) (fun b3 => ?_)
        · refine j_iload_n C dX1_lowerBound_137 2 rfl ?_
          refine j_istore_n (lv' := [(0, .ref (a 0)), (1, .int (zI (su + (L j)))), (2, .int (zI mo)), (3, .int (zI ea)), (4, .int (zI ((j : Nat) : Int))), (5, .int (zI 0))]) C dX1_lowerBound_138 (by decide) rfl rfl ?_
          refine j_iinc (lv' := [(0, .ref (a 0)), (1, .int (zI (su + (L j)))), (2, .int (zI mo)), (3, .int (zI ea)), (4, .int (zI (((j + 1) : Nat) : Int))), (5, .int (zI 0))]) C (((j + 1) : Nat) : Int) dX1_lowerBound_139 4 rfl (by omega) (by decide) rfl rfl ?_
          refine j_goto (tgt := 84) C dX1_lowerBound_142 (by decide) ?_
          refine j_sub (lv' := [(0, .ref (a 0)), (1, .int (zI (su + (L j)))), (2, .int (zI mo)), (3, .int (zI ea)), (4, .int (zI (((j + 1) : Nat) : Int)))]) [0, 1, 2, 3, 4] rfl ?_
          exact ih (j + 1) _ _ (by omega) (by omega) hs' hm
        · omega
theorem l_lowerBound1 {k : JK} {rm : Room} (C : jC k cX1_lowerBound 6 RX1 [(d, .int)] rm) (hmc1 : 1 ≤ mc) (hmc : mc ≤ 3) (hR : ∀ i, i < 3 → 0 ≤ R i ∧ R i ≤ 60) (hL : ∀ i, i < 9 → 0 ≤ L i ∧ L i ≤ 60) (hret : jI k cX1_lowerBound .int (fun v u => u = xw d a mc dl fr kn be R L F O Lf At E P ∧ LB mc R L F v)) : ∀ (n m : Nat) (su mo ea : Int), m ≤ mc → mc - m < n → su = sm R m → LB mc R L F mo → (0 ≤ ea ∧ ea ≤ 60) → (∀ i, i < m → ea ≤ R i) → JJ k 0 0 (xw d a mc dl fr kn be R L F O Lf At E P) 10 [(0, .ref (a 0)), (1, .int (zI su)), (2, .int (zI mo)), (3, .int (zI ea)), (4, .int (zI ((m : Nat) : Int)))] [] := by
  intro n
  induction n with
  | zero => intro m su mo ea h1 h2; omega
  | succ n ih =>
    intro m su mo ea hm hn hs hmo hea hei
    have hmb := hmo.1
    refine j_iload C dX1_lowerBound_10 4 rfl ?_
    refine j_aload_n C dX1_lowerBound_12 0 rfl ?_
    refine j_get (ci := 0) (v := .int (zI ((mc : Nat) : Int))) C in_X1 0 rfl rfl 0 (by decide) q33 rfl rfl dX1_lowerBound_13 ?_
    refine j_icmp_ge (tgt := 81) C dX1_lowerBound_16 (by decide) (by omega) (by omega) (fun b1 => ?_) (fun b1 => ?_)
    · refine j_iconst C dX1_lowerBound_81 ?_
      refine j_istore (lv' := [(0, .ref (a 0)), (1, .int (zI su)), (2, .int (zI mo)), (3, .int (zI ea)), (4, .int (zI 0))]) C dX1_lowerBound_82 (by decide) rfl rfl ?_
      exact l_lowerBound2 C hmc1 hmc hR hL ea hea (fun i hi => hei i (by omega)) hret 9 0 su mo (by omega) (by omega) (by rw [hs, sm_0, show m = mc from by omega]; omega) hmo
    · have hRm := hR m (by omega)
      have hs' : su + R m = sm R (m + 1) := by rw [sm_s, hs]
      have hq : LB mc R L F (R m) := ⟨by omega, fun lim hq => lb_R (fun j hj => (hL j hj).1) (by omega) hq⟩
      have e1 : ea ≤ R m → ∀ i, i < m + 1 → ea ≤ R i := fun q i hi => by
        by_cases e : i = m
        · subst e; exact q
        · exact hei i (by omega)
      have e2 : R m ≤ ea → ∀ i, i < m + 1 → R m ≤ R i := fun q i hi => by
        by_cases e : i = m
        · subst e; exact Int.le_refl _
        · have := hei i (by omega); omega
      refine j_iload_n C dX1_lowerBound_19 1 rfl ?_
      refine j_aload_n C dX1_lowerBound_20 0 rfl ?_
      refine j_get (ci := 0) (v := .ref (a 1)) C in_X1 0 rfl rfl 2 (by decide) q35 rfl rfl dX1_lowerBound_21 ?_
      refine j_iload C dX1_lowerBound_24 4 rfl ?_
      refine j_ald (f := R) (v := (R m)) C 1 rfl rfl m (by omega) (by omega) (by decide) rfl dX1_lowerBound_26 ?_
      refine j_iadd C dX1_lowerBound_27 ?_
      refine j_istore_n (lv' := [(0, .ref (a 0)), (1, .int (zI (su + (R m)))), (2, .int (zI mo)), (3, .int (zI ea)), (4, .int (zI ((m : Nat) : Int)))]) C dX1_lowerBound_28 (by decide) rfl rfl ?_
      refine j_aload_n C dX1_lowerBound_29 0 rfl ?_
      refine j_get (ci := 0) (v := .ref (a 1)) C in_X1 0 rfl rfl 2 (by decide) q35 rfl rfl dX1_lowerBound_30 ?_
      refine j_iload C dX1_lowerBound_33 4 rfl ?_
      refine j_ald (f := R) (v := (R m)) C 1 rfl rfl m (by omega) (by omega) (by decide) rfl dX1_lowerBound_35 ?_
      refine j_iload_n C dX1_lowerBound_36 2 rfl ?_
      refine j_icmp_le (tgt := 50) C dX1_lowerBound_37 (by decide) (by omega) (by omega) (fun b2 => ?_) (fun b2 => ?_)
      · refine j_iload_n C dX1_lowerBound_50 2 rfl ?_
        refine j_istore_n (lv' := [(0, .ref (a 0)), (1, .int (zI (su + (R m)))), (2, .int (zI mo)), (3, .int (zI ea)), (4, .int (zI ((m : Nat) : Int)))]) C dX1_lowerBound_51 (by decide) rfl rfl ?_
        refine j_aload_n C dX1_lowerBound_52 0 rfl ?_
        refine j_get (ci := 0) (v := .ref (a 1)) C in_X1 0 rfl rfl 2 (by decide) q35 rfl rfl dX1_lowerBound_53 ?_
        refine j_iload C dX1_lowerBound_56 4 rfl ?_
        refine j_ald (f := R) (v := (R m)) C 1 rfl rfl m (by omega) (by omega) (by decide) rfl dX1_lowerBound_58 ?_
        refine j_iload_n C dX1_lowerBound_59 3 rfl ?_
        refine j_icmp_ge (tgt := 73) C dX1_lowerBound_60 (by decide) (by omega) (by omega) (fun b3 => ?_) (fun b3 => ?_)
        · refine j_iload_n C dX1_lowerBound_73 3 rfl ?_
          refine j_istore_n (lv' := [(0, .ref (a 0)), (1, .int (zI (su + (R m)))), (2, .int (zI mo)), (3, .int (zI ea)), (4, .int (zI ((m : Nat) : Int)))]) C dX1_lowerBound_74 (by decide) rfl rfl ?_
          refine j_iinc (lv' := [(0, .ref (a 0)), (1, .int (zI (su + (R m)))), (2, .int (zI mo)), (3, .int (zI ea)), (4, .int (zI (((m + 1) : Nat) : Int)))]) C (((m + 1) : Nat) : Int) dX1_lowerBound_75 4 rfl (by omega) (by decide) rfl rfl ?_
          refine j_goto (tgt := 10) C dX1_lowerBound_78 (by decide) ?_
          exact ih (m + 1) _ _ _ (by omega) (by omega) hs' hmo hea (e1 (by omega))
        · refine j_aload_n C dX1_lowerBound_63 0 rfl ?_
          refine j_get (ci := 0) (v := .ref (a 1)) C in_X1 0 rfl rfl 2 (by decide) q35 rfl rfl dX1_lowerBound_64 ?_
          refine j_iload C dX1_lowerBound_67 4 rfl ?_
          refine j_ald (f := R) (v := (R m)) C 1 rfl rfl m (by omega) (by omega) (by decide) rfl dX1_lowerBound_69 ?_
          refine j_goto (tgt := 74) C dX1_lowerBound_70 (by decide) ?_
          refine j_istore_n (lv' := [(0, .ref (a 0)), (1, .int (zI (su + (R m)))), (2, .int (zI mo)), (3, .int (zI (R m))), (4, .int (zI ((m : Nat) : Int)))]) C dX1_lowerBound_74 (by decide) rfl rfl ?_
          refine j_iinc (lv' := [(0, .ref (a 0)), (1, .int (zI (su + (R m)))), (2, .int (zI mo)), (3, .int (zI (R m))), (4, .int (zI (((m + 1) : Nat) : Int)))]) C (((m + 1) : Nat) : Int) dX1_lowerBound_75 4 rfl (by omega) (by decide) rfl rfl ?_
          refine j_goto (tgt := 10) C dX1_lowerBound_78 (by decide) ?_
          exact ih (m + 1) _ _ _ (by omega) (by omega) hs' hmo hRm (e2 (by omega))
      · refine j_aload_n C dX1_lowerBound_40 0 rfl ?_
        refine j_get (ci := 0) (v := .ref (a 1)) C in_X1 0 rfl rfl 2 (by decide) q35 rfl rfl dX1_lowerBound_41 ?_
        refine j_iload C dX1_lowerBound_44 4 rfl ?_
        refine j_ald (f := R) (v := (R m)) C 1 rfl rfl m (by omega) (by omega) (by decide) rfl dX1_lowerBound_46 ?_
        refine j_goto (tgt := 51) C dX1_lowerBound_47 (by decide) ?_
        refine j_istore_n (lv' := [(0, .ref (a 0)), (1, .int (zI (su + (R m)))), (2, .int (zI (R m))), (3, .int (zI ea)), (4, .int (zI ((m : Nat) : Int)))]) C dX1_lowerBound_51 (by decide) rfl rfl ?_
        refine j_aload_n C dX1_lowerBound_52 0 rfl ?_
        refine j_get (ci := 0) (v := .ref (a 1)) C in_X1 0 rfl rfl 2 (by decide) q35 rfl rfl dX1_lowerBound_53 ?_
        refine j_iload C dX1_lowerBound_56 4 rfl ?_
        refine j_ald (f := R) (v := (R m)) C 1 rfl rfl m (by omega) (by omega) (by decide) rfl dX1_lowerBound_58 ?_
        refine j_iload_n C dX1_lowerBound_59 3 rfl ?_
        refine j_icmp_ge (tgt := 73) C dX1_lowerBound_60 (by decide) (by omega) (by omega) (fun b3 => ?_) (fun b3 => ?_)
        · refine j_iload_n C dX1_lowerBound_73 3 rfl ?_
          refine j_istore_n (lv' := [(0, .ref (a 0)), (1, .int (zI (su + (R m)))), (2, .int (zI (R m))), (3, .int (zI ea)), (4, .int (zI ((m : Nat) : Int)))]) C dX1_lowerBound_74 (by decide) rfl rfl ?_
          refine j_iinc (lv' := [(0, .ref (a 0)), (1, .int (zI (su + (R m)))), (2, .int (zI (R m))), (3, .int (zI ea)), (4, .int (zI (((m + 1) : Nat) : Int)))]) C (((m + 1) : Nat) : Int) dX1_lowerBound_75 4 rfl (by omega) (by decide) rfl rfl ?_
          refine j_goto (tgt := 10) C dX1_lowerBound_78 (by decide) ?_
          exact ih (m + 1) _ _ _ (by omega) (by omega) hs' hq hea (e1 (by omega))
        · refine j_aload_n C dX1_lowerBound_63 0 rfl ?_
          refine j_get (ci := 0) (v := .ref (a 1)) C in_X1 0 rfl rfl 2 (by decide) q35 rfl rfl dX1_lowerBound_64 ?_
          refine j_iload C dX1_lowerBound_67 4 rfl ?_
          refine j_ald (f := R) (v := (R m)) C 1 rfl rfl m (by omega) (by omega) (by decide) rfl dX1_lowerBound_69 ?_
          refine j_goto (tgt := 74) C dX1_lowerBound_70 (by decide) ?_
          refine j_istore_n (lv' := [(0, .ref (a 0)), (1, .int (zI (su + (R m)))), (2, .int (zI (R m))), (3, .int (zI (R m))), (4, .int (zI ((m : Nat) : Int)))]) C dX1_lowerBound_74 (by decide) rfl rfl ?_
          refine j_iinc (lv' := [(0, .ref (a 0)), (1, .int (zI (su + (R m)))), (2, .int (zI (R m))), (3, .int (zI (R m))), (4, .int (zI (((m + 1) : Nat) : Int)))]) C (((m + 1) : Nat) : Int) dX1_lowerBound_75 4 rfl (by omega) (by decide) rfl rfl ?_
          refine j_goto (tgt := 10) C dX1_lowerBound_78 (by decide) ?_
          exact ih (m + 1) _ _ _ (by omega) (by omega) hs' hq hRm (e2 (by omega))
/-- lowerBound(): a bound that no plan goes below -/
theorem m_lowerBound (l : Launch) (D : va_G) (hmc1 : 1 ≤ mc) (hmc : mc ≤ 3) (hR : ∀ i, i < 3 → 0 ≤ R i ∧ R i ≤ 60) (hL : ∀ i, i < 9 → 0 ≤ L i ∧ L i ≤ 60) : MI l yX1_lowerBound cX1_lowerBound 6 .int (rmd 0) D [(d, .int)] [.ref (a 0)] (xw d a mc dl fr kn be R L F O Lf At E P) (fun v u => u = xw d a mc dl fr kn be R L F O Lf At E P ∧ LB mc R L F v) := by
  refine mi_of RX1 rfl (by decide +kernel) (Nat.le_of_ble_eq_true rfl) (fun k hkl hkD C hret => ?_)
  show JJ k 0 0 (xw d a mc dl fr kn be R L F O Lf At E P) 0 [(0, .ref (a 0))] []
  refine j_iconst C dX1_lowerBound_0 ?_
  refine j_istore_n (lv' := [(0, .ref (a 0)), (1, .int (zI 0))]) C dX1_lowerBound_1 (by decide) rfl rfl ?_
  refine j_iconst C dX1_lowerBound_2 ?_
  refine j_istore_n (lv' := [(0, .ref (a 0)), (1, .int (zI 0)), (2, .int (zI 0))]) C dX1_lowerBound_3 (by decide) rfl rfl ?_
  refine j_bipush C dX1_lowerBound_4 (by decide +kernel) ?_
  refine j_istore_n (lv' := [(0, .ref (a 0)), (1, .int (zI 0)), (2, .int (zI 0)), (3, .int (zI 60))]) C dX1_lowerBound_6 (by decide) rfl rfl ?_
  refine j_iconst C dX1_lowerBound_7 ?_
  refine j_istore (lv' := [(0, .ref (a 0)), (1, .int (zI 0)), (2, .int (zI 0)), (3, .int (zI 60)), (4, .int (zI 0))]) C dX1_lowerBound_8 (by decide) rfl rfl ?_
  exact l_lowerBound1 C hmc1 hmc hR hL hret 4 0 0 0 60 (by omega) (by omega) rfl ⟨by omega, fun lim hq => Int.le_trans (hR 0 (by omega)).1 (lb_R (fun j hj => (hL j hj).1) (by omega) hq)⟩ (by omega) (fun i hi => by omega)
theorem l_longestFirst2 {k : JK} {rm : Room} (C : jC k cX1_longestFirst 4 RX1 [(d, .int)] rm) (hmc : mc ≤ 3) (hE : ∀ i, i < mc → 0 ≤ E i ∧ E i ≤ 600) (G : Int → Prop) (hG : ∀ v, (∀ i, i < mc → E i ≤ v) → G v) (hret : jI k cX1_longestFirst .int (fun v u => (∃ (fr' : Int) (O' Lf' E' : Nat → Int), u = xw d a mc dl fr' kn be R L F O' Lf' At E' P) ∧ (0 ≤ v ∧ v ≤ 600) ∧ G v)) : ∀ (n m : Nat) (la : Int), m ≤ mc → mc - m < n → (0 ≤ la ∧ la ≤ 600) → (∀ i, i < m → E i ≤ la) → JJ k 0 0 (xw d a mc dl fr kn be R L F O Lf At E P) 49 [(0, .ref (a 0)), (1, .int (zI la)), (2, .int (zI ((m : Nat) : Int)))] [] := by
  intro n
  induction n with
  | zero => intro m la h1 h2; omega
  | succ n ih =>
    intro m la hm hn hla hi
    refine j_iload_n C dX1_longestFirst_49 2 rfl ?_
    refine j_aload_n C dX1_longestFirst_50 0 rfl ?_
    refine j_get (ci := 0) (v := .int (zI ((mc : Nat) : Int))) C in_X1 0 rfl rfl 0 (by decide) q33 rfl rfl dX1_longestFirst_51 ?_
    refine j_icmp_ge (tgt := 84) C dX1_longestFirst_54 (by decide) (by omega) (by omega) (fun b1 => ?_) (fun b1 => ?_)
    · refine j_iload_n C dX1_longestFirst_84 1 rfl ?_
      exact j_ret hret dX1_longestFirst_85 rfl (⟨⟨fr, O, Lf, E, rfl⟩, hla, hG la (fun i hh => hi i (by omega))⟩)
    · have hEm := hE m (by omega)
      refine j_aload_n C dX1_longestFirst_57 0 rfl ?_
      refine j_get (ci := 0) (v := .ref (a 7)) C in_X1 0 rfl rfl 9 (by decide) q42 rfl rfl dX1_longestFirst_58 ?_
      refine j_iload_n C dX1_longestFirst_61 2 rfl ?_
      refine j_ald (f := E) (v := (E m)) C 7 rfl rfl m (by omega) (by omega) (by decide) rfl dX1_longestFirst_62 ?_
      refine j_iload_n C dX1_longestFirst_63 1 rfl ?_
      refine j_icmp_le (tgt := 76) C dX1_longestFirst_64 (by decide) (by omega) (by omega) (fun b2 => ?_) (fun b2 => ?_)
      · refine j_iload_n C dX1_longestFirst_76 1 rfl ?_
        refine j_istore_n (lv' := [(0, .ref (a 0)), (1, .int (zI la)), (2, .int (zI ((m : Nat) : Int)))]) C dX1_longestFirst_77 (by decide) rfl rfl ?_
        refine j_iinc (lv' := [(0, .ref (a 0)), (1, .int (zI la)), (2, .int (zI (((m + 1) : Nat) : Int)))]) C (((m + 1) : Nat) : Int) dX1_longestFirst_78 2 rfl (by omega) (by decide) rfl rfl ?_
        refine j_goto (tgt := 49) C dX1_longestFirst_81 (by decide) ?_
        exact ih (m + 1) la (by omega) (by omega) hla (fun i hh => by
          by_cases e : i = m
          · subst e; exact b2
          · exact hi i (by omega))
      · refine j_aload_n C dX1_longestFirst_67 0 rfl ?_
        refine j_get (ci := 0) (v := .ref (a 7)) C in_X1 0 rfl rfl 9 (by decide) q42 rfl rfl dX1_longestFirst_68 ?_
        refine j_iload_n C dX1_longestFirst_71 2 rfl ?_
        refine j_ald (f := E) (v := (E m)) C 7 rfl rfl m (by omega) (by omega) (by decide) rfl dX1_longestFirst_72 ?_
        refine j_goto (tgt := 77) C dX1_longestFirst_73 (by decide) ?_
        refine j_istore_n (lv' := [(0, .ref (a 0)), (1, .int (zI (E m))), (2, .int (zI ((m : Nat) : Int)))]) C dX1_longestFirst_77 (by decide) rfl rfl ?_
        refine j_iinc (lv' := [(0, .ref (a 0)), (1, .int (zI (E m))), (2, .int (zI (((m + 1) : Nat) : Int)))]) C (((m + 1) : Nat) : Int) dX1_longestFirst_78 2 rfl (by omega) (by decide) rfl rfl ?_
        refine j_goto (tgt := 49) C dX1_longestFirst_81 (by decide) ?_
        exact ih (m + 1) _ (by omega) (by omega) hEm (fun i hh => by
          by_cases e : i = m
          · subst e; exact Int.le_refl _
          · have := hi i (by omega); omega)
theorem l_longestFirst1 {k : JK} (C : jC k cX1_longestFirst 4 RX1 [(d, .int)] (rmd 2)) (hmc1 : 1 ≤ mc) (hmc : mc ≤ 3) (hL : ∀ i, i < 9 → 0 ≤ L i ∧ L i ≤ 60) (n : Nat) (hn9 : n ≤ 9) (hO : ∀ i, i < n → 0 ≤ O i ∧ O i < 9) (G : Int → Prop) (hret : jI k cX1_longestFirst .int (fun v u => (∃ (fr' : Int) (O' Lf' E' : Nat → Int), u = xw d a mc dl fr' kn be R L F O' Lf' At E' P) ∧ (0 ≤ v ∧ v ≤ 600) ∧ G v)) : ∀ (r p : Nat) (E : Nat → Int), p + r = n → (∀ i, i < mc → 0 ≤ E i ∧ E i ≤ 60 + 60 * (p : Int)) → (∀ v, Can mc v (szf L O n) r E p → G v) → JJ k 0 0 (xw d a mc dl ((n : Nat) : Int) kn be R L F O Lf At E P) 8 [(0, .ref (a 0)), (1, .int (zI 0)), (2, .int (zI ((p : Nat) : Int)))] [] := by
  intro r
  induction r with
  | zero =>
    intro p E hp hE hG
    refine j_iload_n C dX1_longestFirst_8 2 rfl ?_
    refine j_aload_n C dX1_longestFirst_9 0 rfl ?_
    refine j_get (ci := 0) (v := .int (zI ((n : Nat) : Int))) C in_X1 0 rfl rfl 5 (by decide) q38 rfl rfl dX1_longestFirst_10 ?_
    refine j_icmp_ge (tgt := 47) C dX1_longestFirst_13 (by decide) (by omega) (by omega) (fun b1 => ?_) (fun b1 => ?_)
    · refine j_iconst C dX1_longestFirst_47 ?_
      refine j_istore_n (lv' := [(0, .ref (a 0)), (1, .int (zI 0)), (2, .int (zI 0))]) C dX1_longestFirst_48 (by decide) rfl rfl ?_
      exact l_longestFirst2 C hmc (fun i hi => by have := hE i hi; omega) G (fun v h => hG v h) hret 4 0 0 (by omega) (by omega) (by omega) (fun i hi => by omega)
    · omega
  | succ r ih =>
    intro p E hp hE hG
    refine j_iload_n C dX1_longestFirst_8 2 rfl ?_
    refine j_aload_n C dX1_longestFirst_9 0 rfl ?_
    refine j_get (ci := 0) (v := .int (zI ((n : Nat) : Int))) C in_X1 0 rfl rfl 5 (by decide) q38 rfl rfl dX1_longestFirst_10 ?_
    refine j_icmp_ge (tgt := 47) C dX1_longestFirst_13 (by decide) (by omega) (by omega) (fun b1 => ?_) (fun b1 => ?_)
    · omega
    · have hOp := hO p (by omega)
      have hLp := hL (O p).toNat (by omega)
      have esz : szf L O n p = L (O p).toNat := if_pos (by omega)
      refine j_aload_n C dX1_longestFirst_16 0 rfl ?_
      refine j_calli (ci := 0) (n := 0) C (m_earliestMachine (kl k) (kD k) hmc1 hmc (fun i hi => by have := hE i hi; omega)) q147 q149 qs14 q23 q150 (by decide +kernel) rfl rfl (by decide) rfl rfl (Nat.le_of_ble_eq_true rfl) dX1_longestFirst_17 (fun v u hv => ?_)
      obtain ⟨rfl, m, hm, rfl⟩ := hv
      have hEm := hE m hm
      refine j_istore_n (lv' := [(0, .ref (a 0)), (1, .int (zI 0)), (2, .int (zI ((p : Nat) : Int))), (3, .int (zI ((m : Nat) : Int)))]) C dX1_longestFirst_20 (by decide) rfl rfl ?_
      refine j_aload_n C dX1_longestFirst_21 0 rfl ?_
      refine j_get (ci := 0) (v := .ref (a 7)) C in_X1 0 rfl rfl 9 (by decide) q42 rfl rfl dX1_longestFirst_22 ?_
      refine j_iload_n C dX1_longestFirst_25 3 rfl ?_
      refine j_dup2 C dX1_longestFirst_26 rfl rfl ?_
      refine j_ald (f := E) (v := (E m)) C 7 rfl rfl m (by omega) (by omega) (by decide) rfl dX1_longestFirst_27 ?_
      refine j_aload_n C dX1_longestFirst_28 0 rfl ?_
      refine j_get (ci := 0) (v := .ref (a 2)) C in_X1 0 rfl rfl 3 (by decide) q36 rfl rfl dX1_longestFirst_29 ?_
      refine j_aload_n C dX1_longestFirst_32 0 rfl ?_
      refine j_get (ci := 0) (v := .ref (a 4)) C in_X1 0 rfl rfl 6 (by decide) q39 rfl rfl dX1_longestFirst_33 ?_
      refine j_iload_n C dX1_longestFirst_36 2 rfl ?_
      refine j_ald (f := O) (v := (O p)) C 4 rfl rfl p (by omega) (by omega) (by decide) rfl dX1_longestFirst_37 ?_
      refine j_ald (f := L) (v := (L (O p).toNat)) C 2 rfl rfl (O p).toNat (by omega) (by omega) (by decide) rfl dX1_longestFirst_38 ?_
      refine j_iadd C dX1_longestFirst_39 ?_
      refine j_ast (f := E) (ws' := (xw d a mc dl ((n : Nat) : Int) kn be R L F O Lf At (zU E m ((E m) + (L (O p).toNat))) P)) C 7 rfl rfl m (by omega) (by omega) (by decide) dX1_longestFirst_40 rfl ?_
      refine j_iinc (lv' := [(0, .ref (a 0)), (1, .int (zI 0)), (2, .int (zI (((p + 1) : Nat) : Int))), (3, .int (zI ((m : Nat) : Int)))]) C (((p + 1) : Nat) : Int) dX1_longestFirst_41 2 rfl (by omega) (by decide) rfl rfl ?_
      refine j_goto (tgt := 8) C dX1_longestFirst_44 (by decide) ?_
      refine j_sub (lv' := [(0, .ref (a 0)), (1, .int (zI 0)), (2, .int (zI (((p + 1) : Nat) : Int)))]) [0, 1, 2] rfl ?_
      exact ih (p + 1) _ (by omega) (fun i hi => by
        by_cases e : i = m
        · subst e; rw [zU_s]; omega
        · rw [zU_n e]; have := hE i hi; omega) (fun v hc => hG v ⟨m, hm, by rw [esz]; exact hc⟩)
/-- longestFirst(): the end of one plan -/
theorem m_longestFirst (l : Launch) (D : va_G) (hmc1 : 1 ≤ mc) (hmc : mc ≤ 3) (hR : ∀ i, i < 3 → 0 ≤ R i ∧ R i ≤ 60) (hL : ∀ i, i < 9 → 0 ≤ L i ∧ L i ≤ 60) (hF : ∀ i, i < 9 → F i = -1) : MI l yX1_longestFirst cX1_longestFirst 4 .int (rmd 2) D [(d, .int)] [.ref (a 0)] (xw d a mc dl fr kn be R L F O Lf At E P) (fun v u => (∃ (fr' : Int) (O' Lf' E' : Nat → Int), u = xw d a mc dl fr' kn be R L F O' Lf' At E' P) ∧ (0 ≤ v ∧ v ≤ 600) ∧ Fits mc R L F v) := by
  refine mi_of RX1 rfl (by decide +kernel) (Nat.le_of_ble_eq_true rfl) (fun k hkl hkD C hret => ?_)
  show JJ k 0 0 (xw d a mc dl fr kn be R L F O Lf At E P) 0 [(0, .ref (a 0))] []
  refine j_aload_n C dX1_longestFirst_0 0 rfl ?_
  refine j_callv (ci := 0) (n := 0) C (m_arrange (kl k) (kD k) hmc hL (fun i hi => by have := hF i hi; omega)) q94 q96 qs4 q23 q97 (by decide +kernel) rfl rfl (by decide) rfl rfl (Nat.le_of_ble_eq_true rfl) dX1_longestFirst_1 (fun u hu => ?_)
  obtain ⟨n, O, E, Lf, rfl, ho, he, hls⟩ := hu
  have hn9 := ord_le ho
  have hfc : ∀ lim, Can mc lim (szf L O n) n E 0 → Fits mc R L F lim := fun lim hc => (fits_can ho he (fun j hj _ => by have := hF j hj; omega) (fun j hj => (hL j hj).1)).mpr ((can_congr (fun i h1 h2 => if_pos (by omega))).mp hc)
  have hE0 : ∀ i, i < mc → E i = R i := fun i hi => by
    rw [he i hi, sm_congr (g := fun _ => 0) (fun z hz => if_neg (fun q => by have := hF z hz; have := q.1.2; omega)), sm_z]
    omega
  refine j_iconst C dX1_longestFirst_4 ?_
  refine j_istore_n (lv' := [(0, .ref (a 0)), (1, .int (zI 0))]) C dX1_longestFirst_5 (by decide) rfl rfl ?_
  refine j_iconst C dX1_longestFirst_6 ?_
  refine j_istore_n (lv' := [(0, .ref (a 0)), (1, .int (zI 0)), (2, .int (zI 0))]) C dX1_longestFirst_7 (by decide) rfl rfl ?_
  exact l_longestFirst1 C hmc1 hmc hL n hn9 (fun i hi => by have := (ho.1 i hi).1; omega) (Fits mc R L F) hret n 0 E (by omega) (fun i hi => by have := hR i (by omega); rw [hE0 i hi]; omega) hfc
theorem l_findLeastEnd {k : JK} (C : jC k cX1_findLeastEnd 6 RX1 [(d, .int)] (rmd 3)) (hmc1 : 1 ≤ mc) (hmc : mc ≤ 3) (hR : ∀ i, i < 3 → 0 ≤ R i ∧ R i ≤ 60) (hL : ∀ i, i < 9 → 0 ≤ L i ∧ L i ≤ 60) (hF : ∀ i, i < 9 → F i = -1) (hret : jV k cX1_findLeastEnd (fun u => ∃ (fr' be' : Int) (O' Lf' At' E' : Nat → Int), u = xw d a mc dl fr' kn be' R L F O' Lf' At' E' P ∧ (0 ≤ be' ∧ be' ≤ 1000) ∧ Fits mc R L F be' ∧ ∀ lim, Fits mc R L F lim → be' ≤ lim)) : ∀ (t step : Nat) (lo hi fr : Int) (O Lf At E : Nat → Int), step + t = 10 → (0 ≤ lo ∧ lo ≤ hi ∧ hi ≤ 1000) → hi - lo < ((2 ^ t : Nat) : Int) → Fits mc R L F hi → (∀ lim, Fits mc R L F lim → lo ≤ lim) → JJ k 0 0 (xw d a mc dl fr kn be R L F O Lf At E P) 12 [(0, .ref (a 0)), (1, .int (zI lo)), (2, .int (zI hi)), (3, .int (zI ((step : Nat) : Int)))] [] := by
  intro t
  induction t with
  | zero =>
    intro step lo hi fr O Lf At E hst hb hw h1 h2
    have hp : ((2 ^ 0 : Nat) : Int) = 1 := rfl
    have e : lo = hi := by omega
    subst e
    refine j_iload_n C dX1_findLeastEnd_12 3 rfl ?_
    refine j_bipush C dX1_findLeastEnd_13 (by decide +kernel) ?_
    refine j_icmp_ge (tgt := 60) C dX1_findLeastEnd_15 (by decide) (by omega) (by omega) (fun b1 => ?_) (fun b1 => ?_)
    · refine j_aload_n C dX1_findLeastEnd_60 0 rfl ?_
      refine j_iload_n C dX1_findLeastEnd_61 2 rfl ?_
      refine j_put (ci := 0) (ws' := (xw d a mc dl fr kn lo R L F O Lf At E P)) C in_X1 tyX1 tyX1_ok nmX1 0 rfl rfl 11 (by decide) q44 rfl rfl rfl rfl (Nat.le_of_ble_eq_true rfl) dX1_findLeastEnd_62 rfl ?_
      exact j_vret hret dX1_findLeastEnd_65 (⟨fr, lo, O, Lf, At, E, rfl, by omega, h1, h2⟩)
    · omega
  | succ t ih =>
    intro step lo hi fr O Lf At E hst hb hw h1 h2
    have hp : ((2 ^ (t + 1) : Nat) : Int) = ((2 ^ t : Nat) : Int) * 2 := by rw [Nat.pow_succ]; exact Int.natCast_mul _ _
    generalize hpw : ((2 ^ t : Nat) : Int) = pw at hp ih
    refine j_iload_n C dX1_findLeastEnd_12 3 rfl ?_
    refine j_bipush C dX1_findLeastEnd_13 (by decide +kernel) ?_
    refine j_icmp_ge (tgt := 60) C dX1_findLeastEnd_15 (by decide) (by omega) (by omega) (fun b1 => ?_) (fun b1 => ?_)
    · omega
    · refine j_iload_n C dX1_findLeastEnd_18 1 rfl ?_
      refine j_iload_n C dX1_findLeastEnd_19 2 rfl ?_
      refine j_icmp_ge (tgt := 60) C dX1_findLeastEnd_20 (by decide) (by omega) (by omega) (fun b2 => ?_) (fun b2 => ?_)
      · have e : lo = hi := by omega
        subst e
        refine j_aload_n C dX1_findLeastEnd_60 0 rfl ?_
        refine j_iload_n C dX1_findLeastEnd_61 2 rfl ?_
        refine j_put (ci := 0) (ws' := (xw d a mc dl fr kn lo R L F O Lf At E P)) C in_X1 tyX1 tyX1_ok nmX1 0 rfl rfl 11 (by decide) q44 rfl rfl rfl rfl (Nat.le_of_ble_eq_true rfl) dX1_findLeastEnd_62 rfl ?_
        exact j_vret hret dX1_findLeastEnd_65 (⟨fr, lo, O, Lf, At, E, rfl, by omega, h1, h2⟩)
      · refine j_iload_n C dX1_findLeastEnd_23 1 rfl ?_
        refine j_iload_n C dX1_findLeastEnd_24 2 rfl ?_
        refine j_iadd C dX1_findLeastEnd_25 ?_
        refine j_iconst C dX1_findLeastEnd_26 ?_
        refine j_idiv C dX1_findLeastEnd_27 (by omega) (by omega) ?_
        obtain ⟨mid, hmid⟩ : ∃ z : Int, z = (lo + hi) / 2 := ⟨_, rfl⟩
        rw [← hmid]
        refine j_istore (lv' := [(0, .ref (a 0)), (1, .int (zI lo)), (2, .int (zI hi)), (3, .int (zI ((step : Nat) : Int))), (4, .int (zI mid))]) C dX1_findLeastEnd_28 (by decide) rfl rfl ?_
        refine j_aload_n C dX1_findLeastEnd_30 0 rfl ?_
        refine j_iload C dX1_findLeastEnd_31 4 rfl ?_
        refine j_calli (ci := 0) (n := 1) C (m_fitsBy (kl k) (kD k) mid (by omega) hmc hR hL (fun i hi => by have := hF i hi; omega)) q90 q92 qs3 q23 q93 (by decide +kernel) rfl rfl (by decide) rfl rfl (Nat.le_of_ble_eq_true rfl) dX1_findLeastEnd_33 (fun v u hv => ?_)
        obtain ⟨⟨fr, O, Lf, At, E, rfl⟩, hv⟩ := hv
        have hvr : -2147483648 ≤ v ∧ v < 2147483648 := by rcases hv with ⟨h, -⟩ | ⟨h, -⟩ <;> omega
        refine j_istore (lv' := [(0, .ref (a 0)), (1, .int (zI lo)), (2, .int (zI hi)), (3, .int (zI ((step : Nat) : Int))), (4, .int (zI mid)), (5, .int (zI v))]) C dX1_findLeastEnd_36 (by decide) rfl rfl ?_
        refine j_iload C dX1_findLeastEnd_38 5 rfl ?_
        refine j_if_eq (tgt := 49) C dX1_findLeastEnd_40 (by decide) (by omega) (fun b3 => ?_) (fun b3 => ?_)
        · have hnf : ¬ Fits mc R L F mid := by
            rcases hv with ⟨h, -⟩ | ⟨-, h⟩
            · omega
            · exact h
          refine j_iload C dX1_findLeastEnd_49 4 rfl ?_
          refine j_iconst C dX1_findLeastEnd_51 ?_
          refine j_iadd C dX1_findLeastEnd_52 ?_
          refine j_istore_n (lv' := [(0, .ref (a 0)), (1, .int (zI (mid + 1))), (2, .int (zI hi)), (3, .int (zI ((step : Nat) : Int))), (4, .int (zI mid)), (5, .int (zI v))]) C dX1_findLeastEnd_53 (by decide) rfl rfl ?_
          refine j_iinc (lv' := [(0, .ref (a 0)), (1, .int (zI (mid + 1))), (2, .int (zI hi)), (3, .int (zI (((step + 1) : Nat) : Int))), (4, .int (zI mid)), (5, .int (zI v))]) C (((step + 1) : Nat) : Int) dX1_findLeastEnd_54 3 rfl (by omega) (by decide) rfl rfl ?_
          refine j_goto (tgt := 12) C dX1_findLeastEnd_57 (by decide) ?_
          refine j_sub (lv' := [(0, .ref (a 0)), (1, .int (zI (mid + 1))), (2, .int (zI hi)), (3, .int (zI (((step + 1) : Nat) : Int)))]) [0, 1, 2, 3] rfl ?_
          exact ih (step + 1) (mid + 1) hi fr O Lf At E (by omega) (by omega) (by omega) h1 (fun lim hq => by
            rcases Int.lt_or_le mid lim with q | q
            · omega
            · exact absurd (fits_mono hq q) hnf)
        · have hf : Fits mc R L F mid := by
            rcases hv with ⟨-, h⟩ | ⟨h, -⟩
            · exact h
            · omega
          refine j_iload C dX1_findLeastEnd_43 4 rfl ?_
          refine j_istore_n (lv' := [(0, .ref (a 0)), (1, .int (zI lo)), (2, .int (zI mid)), (3, .int (zI ((step : Nat) : Int))), (4, .int (zI mid)), (5, .int (zI v))]) C dX1_findLeastEnd_45 (by decide) rfl rfl ?_
          refine j_goto (tgt := 54) C dX1_findLeastEnd_46 (by decide) ?_
          refine j_iinc (lv' := [(0, .ref (a 0)), (1, .int (zI lo)), (2, .int (zI mid)), (3, .int (zI (((step + 1) : Nat) : Int))), (4, .int (zI mid)), (5, .int (zI v))]) C (((step + 1) : Nat) : Int) dX1_findLeastEnd_54 3 rfl (by omega) (by decide) rfl rfl ?_
          refine j_goto (tgt := 12) C dX1_findLeastEnd_57 (by decide) ?_
          refine j_sub (lv' := [(0, .ref (a 0)), (1, .int (zI lo)), (2, .int (zI mid)), (3, .int (zI (((step + 1) : Nat) : Int)))]) [0, 1, 2, 3] rfl ?_
          exact ih (step + 1) lo mid fr O Lf At E (by omega) (by omega) (by omega) hf h2
/-- findLeastEnd(): bestEnd is the least end of a plan -/
theorem m_findLeastEnd (l : Launch) (D : va_G) (hmc1 : 1 ≤ mc) (hmc : mc ≤ 3) (hR : ∀ i, i < 3 → 0 ≤ R i ∧ R i ≤ 60) (hL : ∀ i, i < 9 → 0 ≤ L i ∧ L i ≤ 60) (hF : ∀ i, i < 9 → F i = -1) : MV l yX1_findLeastEnd cX1_findLeastEnd 6 (rmd 3) D [(d, .int)] [.ref (a 0)] (xw d a mc dl fr kn be R L F O Lf At E P) (fun u => ∃ (fr' be' : Int) (O' Lf' At' E' : Nat → Int), u = xw d a mc dl fr' kn be' R L F O' Lf' At' E' P ∧ (0 ≤ be' ∧ be' ≤ 1000) ∧ Fits mc R L F be' ∧ ∀ lim, Fits mc R L F lim → be' ≤ lim) := by
  refine mv_of RX1 rfl (by decide +kernel) (Nat.le_of_ble_eq_true rfl) (fun k hkl hkD C hret => ?_)
  show JJ k 0 0 (xw d a mc dl fr kn be R L F O Lf At E P) 0 [(0, .ref (a 0))] []
  refine j_aload_n C dX1_findLeastEnd_0 0 rfl ?_
  refine j_calli (ci := 0) (n := 0) C (m_lowerBound (kl k) (kD k) hmc1 hmc hR hL) q139 q141 qs12 q23 q142 (by decide +kernel) rfl rfl (by decide) rfl rfl (Nat.le_of_ble_eq_true rfl) dX1_findLeastEnd_1 (fun lo u hlo => ?_)
  obtain ⟨rfl, hlo⟩ := hlo
  refine j_istore_n (lv' := [(0, .ref (a 0)), (1, .int (zI lo))]) C dX1_findLeastEnd_4 (by decide) rfl rfl ?_
  refine j_aload_n C dX1_findLeastEnd_5 0 rfl ?_
  refine j_calli (ci := 0) (n := 0) C (m_longestFirst (kl k) (kD k) hmc1 hmc hR hL hF) q143 q145 qs13 q23 q146 (by decide +kernel) rfl rfl (by decide) rfl rfl (Nat.le_of_ble_eq_true rfl) dX1_findLeastEnd_6 (fun hi u hhi => ?_)
  obtain ⟨⟨fr, O, Lf, E, rfl⟩, hhb, hhi⟩ := hhi
  have hlh := hlo.2 hi hhi
  have hlb := hlo.1
  refine j_istore_n (lv' := [(0, .ref (a 0)), (1, .int (zI lo)), (2, .int (zI hi))]) C dX1_findLeastEnd_9 (by decide) rfl rfl ?_
  refine j_iconst C dX1_findLeastEnd_10 ?_
  refine j_istore_n (lv' := [(0, .ref (a 0)), (1, .int (zI lo)), (2, .int (zI hi)), (3, .int (zI 0))]) C dX1_findLeastEnd_11 (by decide) rfl rfl ?_
  exact l_findLeastEnd C hmc1 hmc hR hL hF hret 10 0 lo hi fr O Lf At E rfl (by omega) (by have : ((2 ^ 10 : Nat) : Int) = 1024 := rfl; omega) hhi hlo.2
end Least
end
section
/-! BatchAdmission: fixJob, makePlan, end, machineOf, endOf -/
set_option maxRecDepth 100000
theorem zU_zU {f : Nat → Int} {k : Nat} {v w : Int} : zU (zU f k v) k w = zU f k w := by
  funext i
  by_cases e : i = k
  · subst e; rw [zU_s, zU_s]
  · rw [zU_n e, zU_n e, zU_n e]
section Plan
variable {d : ClassId} {a : Nat → Nat} {mc : Nat} {dl fr kn be : Int} {R L F O Lf At E P : Nat → Int}
theorem l_fixJob {k : JK} (C : jC k cX1_fixJob 4 RX1 [(d, .int)] (rmd 3)) (j : Nat) (hj : j < 9) (hbe : 0 ≤ be ∧ be ≤ 1000) (hmc : mc ≤ 3) (hR : ∀ i, i < 3 → 0 ≤ R i ∧ R i ≤ 60) (hL : ∀ i, i < 9 → 0 ≤ L i ∧ L i ≤ 60) (hF : ∀ i, i < 9 → -1 ≤ F i ∧ F i < mc) (hex : ∃ m, m < mc ∧ Fits mc R L (zU F j (m : Nat)) be) (hret : jV k cX1_fixJob (fun u => ∃ (fr' : Int) (m : Nat) (O' Lf' At' E' : Nat → Int), u = xw d a mc dl fr' kn be R L (zU F j (m : Nat)) O' Lf' At' E' P ∧ m < mc ∧ Fits mc R L (zU F j (m : Nat)) be ∧ ∀ m', m' < m → ¬ Fits mc R L (zU F j (m' : Nat)) be)) : ∀ (n m : Nat) (fr : Int) (F' O Lf At E : Nat → Int), m ≤ mc → mc - m < n → (∀ v, zU F' j v = zU F j v) → (∀ m', m' < m → ¬ Fits mc R L (zU F j (m' : Nat)) be) → JJ k 0 0 (xw d a mc dl fr kn be R L F' O Lf At E P) 2 [(0, .ref (a 0)), (1, .int (zI ((j : Nat) : Int))), (2, .int (zI ((m : Nat) : Int)))] [] := by
  intro n
  induction n with
  | zero => intro m fr F' O Lf At E h1 h2; omega
  | succ n ih =>
    intro m fr F' O Lf At E hm hn hF' hno
    refine j_iload_n C dX1_fixJob_2 2 rfl ?_
    refine j_aload_n C dX1_fixJob_3 0 rfl ?_
    refine j_get (ci := 0) (v := .int (zI ((mc : Nat) : Int))) C in_X1 0 rfl rfl 0 (by decide) q33 rfl rfl dX1_fixJob_4 ?_
    refine j_icmp_ge (tgt := 37) C dX1_fixJob_7 (by decide) (by omega) (by omega) (fun b1 => ?_) (fun b1 => ?_)
    · obtain ⟨m0, hm0, hf0⟩ := hex
      exact absurd hf0 (hno m0 (by omega))
    · refine j_aload_n C dX1_fixJob_10 0 rfl ?_
      refine j_get (ci := 0) (v := .ref (a 3)) C in_X1 0 rfl rfl 4 (by decide) q37 rfl rfl dX1_fixJob_11 ?_
      refine j_iload_n C dX1_fixJob_14 1 rfl ?_
      refine j_iload_n C dX1_fixJob_15 2 rfl ?_
      refine j_ast (f := F') (ws' := (xw d a mc dl fr kn be R L (zU F' j ((m : Nat) : Int)) O Lf At E P)) C 3 rfl rfl j (by omega) (by omega) (by decide) dX1_fixJob_16 rfl ?_
      rw [hF']
      have hF2 : ∀ i, i < 9 → -1 ≤ zU F j ((m : Nat) : Int) i ∧ zU F j ((m : Nat) : Int) i < mc := fun i hi => by
        by_cases e : i = j
        · subst e; rw [zU_s]; omega
        · rw [zU_n e]; exact hF i hi
      refine j_aload_n C dX1_fixJob_17 0 rfl ?_
      refine j_aload_n C dX1_fixJob_18 0 rfl ?_
      refine j_get (ci := 0) (v := .int (zI be)) C in_X1 0 rfl rfl 11 (by decide) q44 rfl rfl dX1_fixJob_19 ?_
      refine j_calli (ci := 0) (n := 1) C (m_fitsBy (kl k) (kD k) be hbe hmc hR hL hF2) q90 q92 qs3 q23 q93 (by decide +kernel) rfl rfl (by decide) rfl rfl (Nat.le_of_ble_eq_true rfl) dX1_fixJob_22 (fun v u hv => ?_)
      obtain ⟨⟨fr, O, Lf, At, E, rfl⟩, hv⟩ := hv
      have hvr : -2147483648 ≤ v ∧ v < 2147483648 := by rcases hv with ⟨h, -⟩ | ⟨h, -⟩ <;> omega
      refine j_istore_n (lv' := [(0, .ref (a 0)), (1, .int (zI ((j : Nat) : Int))), (2, .int (zI ((m : Nat) : Int))), (3, .int (zI v))]) C dX1_fixJob_25 (by decide) rfl rfl ?_
      refine j_iload_n C dX1_fixJob_26 3 rfl ?_
      refine j_if_eq (tgt := 31) C dX1_fixJob_27 (by decide) (by omega) (fun b2 => ?_) (fun b2 => ?_)
      · have hnf : ¬ Fits mc R L (zU F j ((m : Nat) : Int)) be := by
          rcases hv with ⟨h, -⟩ | ⟨-, h⟩
          · omega
          · exact h
        refine j_iinc (lv' := [(0, .ref (a 0)), (1, .int (zI ((j : Nat) : Int))), (2, .int (zI (((m + 1) : Nat) : Int))), (3, .int (zI v))]) C (((m + 1) : Nat) : Int) dX1_fixJob_31 2 rfl (by omega) (by decide) rfl rfl ?_
        refine j_goto (tgt := 2) C dX1_fixJob_34 (by decide) ?_
        refine j_sub (lv' := [(0, .ref (a 0)), (1, .int (zI ((j : Nat) : Int))), (2, .int (zI (((m + 1) : Nat) : Int)))]) [0, 1, 2] rfl ?_
        exact ih (m + 1) fr _ O Lf At E (by omega) (by omega) (fun v => zU_zU) (fun m' hm' => by
          by_cases e : m' = m
          · subst e; exact hnf
          · exact hno m' (by omega))
      · have hf : Fits mc R L (zU F j ((m : Nat) : Int)) be := by
          rcases hv with ⟨-, h⟩ | ⟨h, -⟩
          · exact h
          · omega
        exact j_vret hret dX1_fixJob_30 (⟨fr, m, O, Lf, At, E, rfl, by omega, hf, hno⟩)
/-- fixJob(j): j is fixed to the least machine with which bestEnd stays in reach -/
theorem m_fixJob (l : Launch) (D : va_G) (j : Nat) (hj : j < 9) (hbe : 0 ≤ be ∧ be ≤ 1000) (hmc : mc ≤ 3) (hR : ∀ i, i < 3 → 0 ≤ R i ∧ R i ≤ 60) (hL : ∀ i, i < 9 → 0 ≤ L i ∧ L i ≤ 60) (hF : ∀ i, i < 9 → -1 ≤ F i ∧ F i < mc) (hex : ∃ m, m < mc ∧ Fits mc R L (zU F j (m : Nat)) be) : MV l yX1_fixJob cX1_fixJob 4 (rmd 3) D [(d, .int)] [.ref (a 0), .int (zI ((j : Nat) : Int))] (xw d a mc dl fr kn be R L F O Lf At E P) (fun u => ∃ (fr' : Int) (m : Nat) (O' Lf' At' E' : Nat → Int), u = xw d a mc dl fr' kn be R L (zU F j (m : Nat)) O' Lf' At' E' P ∧ m < mc ∧ Fits mc R L (zU F j (m : Nat)) be ∧ ∀ m', m' < m → ¬ Fits mc R L (zU F j (m' : Nat)) be) := by
  refine mv_of RX1 rfl (by decide +kernel) (Nat.le_of_ble_eq_true rfl) (fun k hkl hkD C hret => ?_)
  show JJ k 0 0 (xw d a mc dl fr kn be R L F O Lf At E P) 0 [(0, .ref (a 0)), (1, .int (zI ((j : Nat) : Int)))] []
  refine j_iconst C dX1_fixJob_0 ?_
  refine j_istore_n (lv' := [(0, .ref (a 0)), (1, .int (zI ((j : Nat) : Int))), (2, .int (zI 0))]) C dX1_fixJob_1 (by decide) rfl rfl ?_
  exact l_fixJob C j hj hbe hmc hR hL hF hex hret (mc + 1) 0 fr F O Lf At E (by omega) (by omega) (fun v => rfl) (fun m h => by omega)
theorem l_makePlan {k : JK} (C : jC k cX1_makePlan 2 RX1 [(d, .int)] (rmd 4)) (hbe : 0 ≤ be ∧ be ≤ 1000) (hmc : mc ≤ 3) (hR : ∀ i, i < 3 → 0 ≤ R i ∧ R i ≤ 60) (hL : ∀ i, i < 9 → 0 ≤ L i ∧ L i ≤ 60) (h8 : L 8 = 0) (hlb : ∀ lim, Fits mc R L (fun _ => -1) lim → be ≤ lim) (hret : jV k cX1_makePlan (fun u => ∃ (be' : Int) (P' : Nat → Int), XS d a mc dl 1 be' R L P' u ∧ Chosen mc R L be' P')) : ∀ (n j : Nat) (fr : Int) (F O Lf At E P : Nat → Int), j ≤ 8 → 8 - j < n → Prog mc R L be F j → (∀ z, z < j → 0 < L z → P z = F z) → JJ k 0 0 (xw d a mc dl fr 1 be R L F O Lf At E P) 23 [(0, .ref (a 0)), (1, .int (zI ((j : Nat) : Int)))] [] := by
  intro n
  induction n with
  | zero => intro j fr F O Lf At E P h1 h2; omega
  | succ n ih =>
    intro j fr F O Lf At E P hj hn hpr hP
    refine j_iload_n C dX1_makePlan_23 1 rfl ?_
    refine j_bipush C dX1_makePlan_24 (by decide +kernel) ?_
    refine j_icmp_ge (tgt := 61) C dX1_makePlan_26 (by decide) (by omega) (by omega) (fun b1 => ?_) (fun b1 => ?_)
    · have ej : j = 8 := by omega
      subst ej
      exact j_vret hret dX1_makePlan_61 (⟨be, P, ⟨fr, F, O, Lf, At, E, rfl⟩, prog_end h8 (fun j hj => (hL j hj).1) hpr hP hlb⟩)
    · have hLj := hL j (by omega)
      refine j_aload_n C dX1_makePlan_29 0 rfl ?_
      refine j_get (ci := 0) (v := .ref (a 2)) C in_X1 0 rfl rfl 3 (by decide) q36 rfl rfl dX1_makePlan_30 ?_
      refine j_iload_n C dX1_makePlan_33 1 rfl ?_
      refine j_ald (f := L) (v := (L j)) C 2 rfl rfl j (by omega) (by omega) (by decide) rfl dX1_makePlan_34 ?_
      refine j_if_le (tgt := 55) C dX1_makePlan_35 (by decide) (by omega) (fun b2 => ?_) (fun b2 => ?_)
      · refine j_iinc (lv' := [(0, .ref (a 0)), (1, .int (zI (((j + 1) : Nat) : Int)))]) C (((j + 1) : Nat) : Int) dX1_makePlan_55 1 rfl (by omega) (by decide) rfl rfl ?_
        refine j_goto (tgt := 23) C dX1_makePlan_58 (by decide) ?_
        exact ih (j + 1) fr F O Lf At E P (by omega) (by omega) (prog_skip hpr (by omega)) (fun z hz hl => by
          by_cases e : z = j
          · subst e; omega
          · exact hP z (by omega) hl)
      · have hF : ∀ i, i < 9 → -1 ≤ F i ∧ F i < mc := fun i hi => by
          by_cases p : j ≤ i ∨ ¬ 0 < L i
          · have := hpr.2.1 i hi p
            omega
          · have := hpr.2.2.1 i (by omega) (by omega)
            omega
        refine j_aload_n C dX1_makePlan_38 0 rfl ?_
        refine j_iload_n C dX1_makePlan_39 1 rfl ?_
        refine j_callv (ci := 0) (n := 1) C (m_fixJob (kl k) (kD k) j (by omega) hbe hmc hR hL hF (prog_ex hpr (by omega) (by omega))) q151 q153 qs15 q23 q154 (by decide +kernel) rfl rfl (by decide) rfl rfl (Nat.le_of_ble_eq_true rfl) dX1_makePlan_40 (fun u hu => ?_)
        obtain ⟨fr, m, O, Lf, At, E, rfl, hm, hf, hnf⟩ := hu
        refine j_aload_n C dX1_makePlan_43 0 rfl ?_
        refine j_get (ci := 0) (v := .ref (a 8)) C in_X1 0 rfl rfl 12 (by decide) q45 rfl rfl dX1_makePlan_44 ?_
        refine j_iload_n C dX1_makePlan_47 1 rfl ?_
        refine j_aload_n C dX1_makePlan_48 0 rfl ?_
        refine j_get (ci := 0) (v := .ref (a 3)) C in_X1 0 rfl rfl 4 (by decide) q37 rfl rfl dX1_makePlan_49 ?_
        refine j_iload_n C dX1_makePlan_52 1 rfl ?_
        refine j_ald (f := (zU F j ((m : Nat) : Int))) (v := ((m : Nat) : Int)) C 3 rfl rfl j (by omega) (by omega) (by decide) (zU_s) dX1_makePlan_53 ?_
        refine j_ast (f := P) (ws' := (xw d a mc dl fr 1 be R L (zU F j ((m : Nat) : Int)) O Lf At E (zU P j ((m : Nat) : Int)))) C 8 rfl rfl j (by omega) (by omega) (by decide) dX1_makePlan_54 rfl ?_
        refine j_iinc (lv' := [(0, .ref (a 0)), (1, .int (zI (((j + 1) : Nat) : Int)))]) C (((j + 1) : Nat) : Int) dX1_makePlan_55 1 rfl (by omega) (by decide) rfl rfl ?_
        refine j_goto (tgt := 23) C dX1_makePlan_58 (by decide) ?_
        exact ih (j + 1) fr _ O Lf At E _ (by omega) (by omega) (prog_fix h8 hpr (by omega) (by omega) hm hf hnf) (fun z hz hl => by
          by_cases e : z = j
          · subst e; rw [zU_s, zU_s]
          · rw [zU_n e, zU_n e]; exact hP z (by omega) hl)
/-- makePlan(): bestEnd and plan are those chosen -/
theorem m_makePlan (l : Launch) (D : va_G) (hkn : kn = 0 ∨ (kn = 1 ∧ Chosen mc R L be P)) (hmc1 : 1 ≤ mc) (hmc : mc ≤ 3) (hR : ∀ i, i < 3 → 0 ≤ R i ∧ R i ≤ 60) (hL : ∀ i, i < 9 → 0 ≤ L i ∧ L i ≤ 60) (h8 : L 8 = 0) : MV l yX1_makePlan cX1_makePlan 2 (rmd 4) D [(d, .int)] [.ref (a 0)] (xw d a mc dl fr kn be R L F O Lf At E P) (fun u => ∃ (be' : Int) (P' : Nat → Int), XS d a mc dl 1 be' R L P' u ∧ Chosen mc R L be' P') := by
  refine mv_of RX1 rfl (by decide +kernel) (Nat.le_of_ble_eq_true rfl) (fun k hkl hkD C hret => ?_)
  show JJ k 0 0 (xw d a mc dl fr kn be R L F O Lf At E P) 0 [(0, .ref (a 0))] []
  refine j_aload_n C dX1_makePlan_0 0 rfl ?_
  refine j_get (ci := 0) (v := .int (zI kn)) C in_X1 0 rfl rfl 10 (by decide) q43 rfl rfl dX1_makePlan_1 ?_
  refine j_if_eq (tgt := 8) C dX1_makePlan_4 (by decide) (by omega) (fun b1 => ?_) (fun b1 => ?_)
  · refine j_aload_n C dX1_makePlan_8 0 rfl ?_
    refine j_iconst C dX1_makePlan_9 ?_
    refine j_put (ci := 0) (ws' := (xw d a mc dl fr 1 be R L F O Lf At E P)) C in_X1 tyX1 tyX1_ok nmX1 0 rfl rfl 10 (by decide) q43 rfl rfl nz_1 nf_1 (Nat.le_of_ble_eq_true rfl) dX1_makePlan_10 rfl ?_
    refine j_aload_n C dX1_makePlan_13 0 rfl ?_
    refine j_callv (ci := 0) (n := 0) C (m_freeAll (kl k) (kD k)) q86 q88 qs2 q23 q89 (by decide +kernel) rfl rfl (by decide) rfl rfl (Nat.le_of_ble_eq_true rfl) dX1_makePlan_14 (fun u hu => ?_)
    obtain ⟨F, rfl, hF⟩ := hu
    refine j_aload_n C dX1_makePlan_17 0 rfl ?_
    refine j_callv (ci := 0) (n := 0) C (m_findLeastEnd (kl k) (kD k) hmc1 hmc hR hL hF) q135 q137 qs11 q23 q138 (by decide +kernel) rfl rfl (by decide) rfl rfl (Nat.le_of_ble_eq_true rfl) dX1_makePlan_18 (fun u hu => ?_)
    obtain ⟨fr, be, O, Lf, At, E, rfl, hbe, hfit, hlb⟩ := hu
    refine j_iconst C dX1_makePlan_21 ?_
    refine j_istore_n (lv' := [(0, .ref (a 0)), (1, .int (zI 0))]) C dX1_makePlan_22 (by decide) rfl rfl ?_
    exact l_makePlan C hbe hmc hR hL h8 (fun lim hq => hlb lim (fits_congr (fun j hj _ => (hF j hj).symm) hq)) hret 9 0 fr F O Lf At E P (by omega) (by omega) (prog_0 hfit hF) (fun z hz => by omega)
  · have hch : kn = 1 ∧ Chosen mc R L be P := by
      rcases hkn with h | h
      · omega
      · exact h
    obtain ⟨rfl, hch⟩ := hch
    exact j_vret hret dX1_makePlan_7 (⟨be, P, ⟨fr, F, O, Lf, At, E, rfl⟩, hch⟩)
/-- end(): the least end -/
theorem m_end (l : Launch) (D : va_G) (hkn : kn = 0 ∨ (kn = 1 ∧ Chosen mc R L be P)) (hmc1 : 1 ≤ mc) (hmc : mc ≤ 3) (hR : ∀ i, i < 3 → 0 ≤ R i ∧ R i ≤ 60) (hL : ∀ i, i < 9 → 0 ≤ L i ∧ L i ≤ 60) (h8 : L 8 = 0) : MI l yX1_end cX1_end 1 .int (rmd 5) D [(d, .int)] [.ref (a 0)] (xw d a mc dl fr kn be R L F O Lf At E P) (fun v u => ∃ (P' : Nat → Int), XS d a mc dl 1 v R L P' u ∧ Chosen mc R L v P') := by
  refine mi_of RX1 rfl (by decide +kernel) (Nat.le_of_ble_eq_true rfl) (fun k hkl hkD C hret => ?_)
  show JJ k 0 0 (xw d a mc dl fr kn be R L F O Lf At E P) 0 [(0, .ref (a 0))] []
  refine j_aload_n C dX1_end_0 0 rfl ?_
  refine j_callv (ci := 0) (n := 0) C (m_makePlan (kl k) (kD k) hkn hmc1 hmc hR hL h8) q131 q133 qs10 q23 q134 (by decide +kernel) rfl rfl (by decide) rfl rfl (Nat.le_of_ble_eq_true rfl) dX1_end_1 (fun u hu => ?_)
  obtain ⟨be, P, ⟨fr, F, O, Lf, At, E, rfl⟩, hch⟩ := hu
  refine j_aload_n C dX1_end_4 0 rfl ?_
  refine j_get (ci := 0) (v := .int (zI be)) C in_X1 0 rfl rfl 11 (by decide) q44 rfl rfl dX1_end_5 ?_
  exact j_ret hret dX1_end_8 rfl (⟨P, ⟨fr, F, O, Lf, At, E, rfl⟩, hch⟩)
/-- machineOf(job): the held job's machine in the chosen plan; -2 if none is held -/
theorem m_machineOf (l : Launch) (D : va_G) (j : Int) (hj : -2147483648 ≤ j ∧ j < 2147483648) (hkn : kn = 0 ∨ (kn = 1 ∧ Chosen mc R L be P)) (hmc1 : 1 ≤ mc) (hmc : mc ≤ 3) (hR : ∀ i, i < 3 → 0 ≤ R i ∧ R i ≤ 60) (hL : ∀ i, i < 9 → 0 ≤ L i ∧ L i ≤ 60) (h8 : L 8 = 0) : MI l yX1_machineOf cX1_machineOf 2 .int (rmd 5) D [(d, .int)] [.ref (a 0), .int (zI j)] (xw d a mc dl fr kn be R L F O Lf At E P) (fun v u => (¬ (∃ n : Nat, n < 8 ∧ j = n ∧ 0 < L n) ∧ v = -2 ∧ XS d a mc dl kn be R L P u) ∨ ∃ n : Nat, n < 8 ∧ j = n ∧ 0 < L n ∧ ∃ (be' : Int) (P' : Nat → Int), XS d a mc dl 1 be' R L P' u ∧ Chosen mc R L be' P' ∧ v = P' n) := by
  refine mi_of RX1 rfl (by decide +kernel) (Nat.le_of_ble_eq_true rfl) (fun k hkl hkD C hret => ?_)
  show JJ k 0 0 (xw d a mc dl fr kn be R L F O Lf At E P) 0 [(0, .ref (a 0)), (1, .int (zI j))] []
  refine j_aload_n C dX1_machineOf_0 0 rfl ?_
  refine j_iload_n C dX1_machineOf_1 1 rfl ?_
  refine j_calli (ci := 0) (n := 1) C (m_isHeld (kl k) (kD k) j hj hL) q119 q121 qs9 q23 q122 (by decide +kernel) rfl rfl (by decide) rfl rfl (Nat.le_of_ble_eq_true rfl) dX1_machineOf_2 (fun v u hv => ?_)
  obtain ⟨rfl, hv⟩ := hv
  have hvr : -2147483648 ≤ v ∧ v < 2147483648 := by rcases hv with ⟨h, -⟩ | ⟨h, -⟩ <;> omega
  refine j_if_ne (tgt := 11) C dX1_machineOf_5 (by decide) (by omega) (fun b1 => ?_) (fun b1 => ?_)
  · have hv' : ∃ n : Nat, n < 8 ∧ j = n ∧ 0 < L n := by
      rcases hv with ⟨-, h⟩ | ⟨h, -⟩
      · exact h
      · omega
    obtain ⟨n, hn, rfl, hLn⟩ := hv'
    refine j_aload_n C dX1_machineOf_11 0 rfl ?_
    refine j_callv (ci := 0) (n := 0) C (m_makePlan (kl k) (kD k) hkn hmc1 hmc hR hL h8) q131 q133 qs10 q23 q134 (by decide +kernel) rfl rfl (by decide) rfl rfl (Nat.le_of_ble_eq_true rfl) dX1_machineOf_12 (fun u hu => ?_)
    obtain ⟨be, P, ⟨fr, F, O, Lf, At, E, rfl⟩, hch⟩ := hu
    refine j_aload_n C dX1_machineOf_15 0 rfl ?_
    refine j_get (ci := 0) (v := .ref (a 8)) C in_X1 0 rfl rfl 12 (by decide) q45 rfl rfl dX1_machineOf_16 ?_
    refine j_iload_n C dX1_machineOf_19 1 rfl ?_
    refine j_ald (f := P) (v := (P n)) C 8 rfl rfl n (by omega) (by omega) (by decide) rfl dX1_machineOf_20 ?_
    exact j_ret hret dX1_machineOf_21 rfl (Or.inr ⟨n, hn, rfl, hLn, be, P, ⟨fr, F, O, Lf, At, E, rfl⟩, hch, rfl⟩)
  · have hv' : ¬ ∃ n : Nat, n < 8 ∧ j = n ∧ 0 < L n := by
      rcases hv with ⟨h, -⟩ | ⟨-, h⟩
      · omega
      · exact h
    refine j_bipush C dX1_machineOf_8 (by decide +kernel) ?_
    exact j_ret hret dX1_machineOf_10 rfl (Or.inl ⟨hv', rfl, ⟨fr, F, O, Lf, At, E, rfl⟩⟩)
theorem l_endOf {k : JK} {rm : Room} (C : jC k cX1_endOf 4 RX1 [(d, .int)] rm) (m : Nat) (hm : m < mc) (hmc : mc ≤ 3) (hL : ∀ i, i < 9 → 0 ≤ L i ∧ L i ≤ 60) (hP : Val mc L P) {post : Int → va_W → Prop} (hpost : post (ld R L P m 8) (xw d a mc dl fr kn be R L F O Lf At E P)) (hret : jI k cX1_endOf .int post) : ∀ (n j : Nat) (e : Int), j ≤ 8 → 8 - j < n → e = ld R L P m j → JJ k 0 0 (xw d a mc dl fr kn be R L F O Lf At E P) 28 [(0, .ref (a 0)), (1, .int (zI ((m : Nat) : Int))), (2, .int (zI e)), (3, .int (zI ((j : Nat) : Int)))] [] := by
  intro n
  induction n with
  | zero => intro j e h1 h2; omega
  | succ n ih =>
    intro j e hj hn he
    refine j_iload_n C dX1_endOf_28 3 rfl ?_
    refine j_bipush C dX1_endOf_29 (by decide +kernel) ?_
    refine j_icmp_ge (tgt := 68) C dX1_endOf_31 (by decide) (by omega) (by omega) (fun b1 => ?_) (fun b1 => ?_)
    · have ej : j = 8 := by omega
      subst ej
      refine j_iload_n C dX1_endOf_68 2 rfl ?_
      subst he
      exact j_ret hret dX1_endOf_69 rfl (hpost)
    · have hLj := hL j (by omega)
      have hs : ld R L P m (j + 1) = ld R L P m j + (if P j = (m : Int) then L j else 0) := (Int.add_assoc _ _ _).symm
      refine j_aload_n C dX1_endOf_34 0 rfl ?_
      refine j_get (ci := 0) (v := .ref (a 2)) C in_X1 0 rfl rfl 3 (by decide) q36 rfl rfl dX1_endOf_35 ?_
      refine j_iload_n C dX1_endOf_38 3 rfl ?_
      refine j_ald (f := L) (v := (L j)) C 2 rfl rfl j (by omega) (by omega) (by decide) rfl dX1_endOf_39 ?_
      refine j_if_le (tgt := 62) C dX1_endOf_40 (by decide) (by omega) (fun b2 => ?_) (fun b2 => ?_)
      · refine j_iinc (lv' := [(0, .ref (a 0)), (1, .int (zI ((m : Nat) : Int))), (2, .int (zI e)), (3, .int (zI (((j + 1) : Nat) : Int)))]) C (((j + 1) : Nat) : Int) dX1_endOf_62 3 rfl (by omega) (by decide) rfl rfl ?_
        refine j_goto (tgt := 28) C dX1_endOf_65 (by decide) ?_
        exact ih (j + 1) e (by omega) (by omega) (by rw [hs, show L j = 0 from by omega, he]; split <;> omega)
      · have hPj := hP j (by omega) (by omega)
        refine j_aload_n C dX1_endOf_43 0 rfl ?_
        refine j_get (ci := 0) (v := .ref (a 8)) C in_X1 0 rfl rfl 12 (by decide) q45 rfl rfl dX1_endOf_44 ?_
        refine j_iload_n C dX1_endOf_47 3 rfl ?_
        refine j_ald (f := P) (v := (P j)) C 8 rfl rfl j (by omega) (by omega) (by decide) rfl dX1_endOf_48 ?_
        refine j_iload_n C dX1_endOf_49 1 rfl ?_
        refine j_icmp_ne (tgt := 62) C dX1_endOf_50 (by decide) (by omega) (by omega) (fun b3 => ?_) (fun b3 => ?_)
        · refine j_iinc (lv' := [(0, .ref (a 0)), (1, .int (zI ((m : Nat) : Int))), (2, .int (zI e)), (3, .int (zI (((j + 1) : Nat) : Int)))]) C (((j + 1) : Nat) : Int) dX1_endOf_62 3 rfl (by omega) (by decide) rfl rfl ?_
          refine j_goto (tgt := 28) C dX1_endOf_65 (by decide) ?_
          exact ih (j + 1) e (by omega) (by omega) (by rw [hs, if_neg b3, he]; omega)
        · refine j_iload_n C dX1_endOf_53 2 rfl ?_
          refine j_aload_n C dX1_endOf_54 0 rfl ?_
          refine j_get (ci := 0) (v := .ref (a 2)) C in_X1 0 rfl rfl 3 (by decide) q36 rfl rfl dX1_endOf_55 ?_
          refine j_iload_n C dX1_endOf_58 3 rfl ?_
          refine j_ald (f := L) (v := (L j)) C 2 rfl rfl j (by omega) (by omega) (by decide) rfl dX1_endOf_59 ?_
          refine j_iadd C dX1_endOf_60 ?_
          refine j_istore_n (lv' := [(0, .ref (a 0)), (1, .int (zI ((m : Nat) : Int))), (2, .int (zI (e + (L j)))), (3, .int (zI ((j : Nat) : Int)))]) C dX1_endOf_61 (by decide) rfl rfl ?_
          refine j_iinc (lv' := [(0, .ref (a 0)), (1, .int (zI ((m : Nat) : Int))), (2, .int (zI (e + (L j)))), (3, .int (zI (((j + 1) : Nat) : Int)))]) C (((j + 1) : Nat) : Int) dX1_endOf_62 3 rfl (by omega) (by decide) rfl rfl ?_
          refine j_goto (tgt := 28) C dX1_endOf_65 (by decide) ?_
          exact ih (j + 1) _ (by omega) (by omega) (by rw [hs, if_pos b3, he])
/-- endOf(machine): the machine's end under the chosen plan; -2 if there is no such machine -/
theorem m_endOf (l : Launch) (D : va_G) (j : Int) (hj : -2147483648 ≤ j ∧ j < 2147483648) (hkn : kn = 0 ∨ (kn = 1 ∧ Chosen mc R L be P)) (hmc1 : 1 ≤ mc) (hmc : mc ≤ 3) (hR : ∀ i, i < 3 → 0 ≤ R i ∧ R i ≤ 60) (hL : ∀ i, i < 9 → 0 ≤ L i ∧ L i ≤ 60) (h8 : L 8 = 0) : MI l yX1_endOf cX1_endOf 4 .int (rmd 5) D [(d, .int)] [.ref (a 0), .int (zI j)] (xw d a mc dl fr kn be R L F O Lf At E P) (fun v u => (¬ (0 ≤ j ∧ j < mc) ∧ v = -2 ∧ XS d a mc dl kn be R L P u) ∨ ∃ n : Nat, n < mc ∧ j = n ∧ ∃ (be' : Int) (P' : Nat → Int), XS d a mc dl 1 be' R L P' u ∧ Chosen mc R L be' P' ∧ v = ld R L P' n 8) := by
  refine mi_of RX1 rfl (by decide +kernel) (Nat.le_of_ble_eq_true rfl) (fun k hkl hkD C hret => ?_)
  show JJ k 0 0 (xw d a mc dl fr kn be R L F O Lf At E P) 0 [(0, .ref (a 0)), (1, .int (zI j))] []
  refine j_iload_n C dX1_endOf_0 1 rfl ?_
  refine j_if_lt (tgt := 12) C dX1_endOf_1 (by decide) (by omega) (fun b1 => ?_) (fun b1 => ?_)
  · refine j_bipush C dX1_endOf_12 (by decide +kernel) ?_
    exact j_ret hret dX1_endOf_14 rfl (Or.inl ⟨by omega, rfl, ⟨fr, F, O, Lf, At, E, rfl⟩⟩)
  · refine j_iload_n C dX1_endOf_4 1 rfl ?_
    refine j_aload_n C dX1_endOf_5 0 rfl ?_
    refine j_get (ci := 0) (v := .int (zI ((mc : Nat) : Int))) C in_X1 0 rfl rfl 0 (by decide) q33 rfl rfl dX1_endOf_6 ?_
    refine j_icmp_lt (tgt := 15) C dX1_endOf_9 (by decide) (by omega) (by omega) (fun b2 => ?_) (fun b2 => ?_)
    · obtain ⟨n, rfl⟩ : ∃ n : Nat, j = n := ⟨j.toNat, by omega⟩
      refine j_aload_n C dX1_endOf_15 0 rfl ?_
      refine j_callv (ci := 0) (n := 0) C (m_makePlan (kl k) (kD k) hkn hmc1 hmc hR hL h8) q131 q133 qs10 q23 q134 (by decide +kernel) rfl rfl (by decide) rfl rfl (Nat.le_of_ble_eq_true rfl) dX1_endOf_16 (fun u hu => ?_)
      obtain ⟨be, P, ⟨fr, F, O, Lf, At, E, rfl⟩, hch⟩ := hu
      refine j_aload_n C dX1_endOf_19 0 rfl ?_
      refine j_get (ci := 0) (v := .ref (a 1)) C in_X1 0 rfl rfl 2 (by decide) q35 rfl rfl dX1_endOf_20 ?_
      refine j_iload_n C dX1_endOf_23 1 rfl ?_
      refine j_ald (f := R) (v := (R n)) C 1 rfl rfl n (by omega) (by omega) (by decide) rfl dX1_endOf_24 ?_
      refine j_istore_n (lv' := [(0, .ref (a 0)), (1, .int (zI ((n : Nat) : Int))), (2, .int (zI (R n)))]) C dX1_endOf_25 (by decide) rfl rfl ?_
      refine j_iconst C dX1_endOf_26 ?_
      refine j_istore_n (lv' := [(0, .ref (a 0)), (1, .int (zI ((n : Nat) : Int))), (2, .int (zI (R n))), (3, .int (zI 0))]) C dX1_endOf_27 (by decide) rfl rfl ?_
      exact l_endOf C n (by omega) hmc hL hch.1 (Or.inr ⟨n, by omega, rfl, be, P, ⟨fr, F, O, Lf, At, E, rfl⟩, hch, rfl⟩) hret 9 0 (R n) (by omega) (by omega) (by show R n = R n + 0; omega)
    · refine j_bipush C dX1_endOf_12 (by decide +kernel) ?_
      exact j_ret hret dX1_endOf_14 rfl (Or.inl ⟨by omega, rfl, ⟨fr, F, O, Lf, At, E, rfl⟩⟩)
end Plan
end
section
/-! a static call in the caller's whole world -/
set_option maxRecDepth 100000
theorem j_calls {k : JK} {cc : ByteArray} {nL : Nat} {own : String} {tys : List (ClassId × FieldType)} {rm : Room} {cs sl pc : Nat} {ws : va_W} {lv : List (Nat × Value)} {st : List Value} (C : jC k cc nL own tys rm) {y : MethodName} {cc' : ByteArray} {nL' : Nat} {rt : FieldType} {rm' : Room} {As rest : List Value} {post : Int → va_W → Prop} {idx n : Nat}
    (hM : MI (kl k) y cc' nL' rt rm' (kD k) tys As ws post)
    (h1 : Cond.methodLink own idx y ∈ lw_all) (h2 : Cond.static y ∈ lw_all) (h3 : Cond.initialized y.cls ∈ lw_all) (h4 : Cond.code y cc' nL' (some rt) ∈ lw_all)
    (hdn : y.cls ≠ "java/lang/invoke/MethodHandle" ∧ y.cls ≠ "java/lang/invoke/VarHandle" ∧ (parseMethodDescriptor y.desc).map (fun d => d.parameters.length) = some n)
    (hR : (rm'.frames + 1 ≤ rm.frames ∧ 8 + (nL' + 11) + rm'.locals ≤ rm.locals) ∧ (rm'.cells = 0 ∧ rm'.slots = 0) ∧ (cs ≤ rm.cells ∧ sl ≤ rm.slots)) (hnA : As.length = n) (hst : st = As.reverse ++ rest) (hcat : (rest.map fun v => v.category).sum ≤ 8)
    (hd : decode cc pc = .ok (.invokestatic idx, 3)) (kk : ∀ (v : Int) (u : va_W), post v u → JJ k cs sl u (pc + 3) lv (.int (zI v) :: rest)) : JJ k cs sl ws pc lv st := by
  obtain ⟨hx, hb, hml, hown, hts, hK, hA, hn, hr⟩ := C
  subst hst
  intro ls H locs hl hP hD hS
  have hFc : ∀ q, va_A ws H.size q → kA k q := by
    intro q h
    rcases h with ⟨j, e, h⟩ | h
    · exact hD.2 j (q, e) h
    · exact hA q (Nat.le_trans hS.1 h)
  refine va_calli (va_runS (As := As) (rest := rest) ⟨hx, hb, hml, hown, hts⟩ (hM H.size) (va_cwS n hts (lw_S h1 h2 h3 h4) rfl hR.2.1.1 hR.2.1.2 hdn (by rw [hr]; exact hR.1)) ⟨jPre_blind, fun U hU hW => ⟨rfl, by rw [hU], by rw [hU]; exact hP, va_K.moved hW.alike hK, hD.weaken (fun _ _ _ _ => trivial)⟩⟩ rfl hnA (hl.1.trans hn) rfl (lv_room hcat) hd (by rw [hr]; exact hR.2.2)) hS (fun q _ h => hFc q h) hFc (fun r u t H1 locs1 ht hvm hp hB hz1 hk1 hS1 => ?_)
  obtain ⟨v, rfl, hp⟩ := hp
  obtain ⟨hP1, -, hD1⟩ := hB
  rw [ht] at hP1
  exact kk v u hp ls H1 locs1 hl hP1 (hD1.weaken (fun _ q _ h => hFc q.1 h)) hS1
/-! the model's lengths: 0 where no job is held -/
def ef (Hd L : Nat → Int) : Nat → Int := fun j => if j < 8 ∧ Hd j = 1 then L j else 0
/-- the model's flags and lengths are as they must be -/
def Hok (Hd L : Nat → Int) : Prop := ∀ i, i < 8 → (Hd i = 0 ∨ Hd i = 1) ∧ (0 ≤ L i ∧ L i ≤ 60) ∧ (Hd i = 1 → 0 < L i)
theorem ef_1 {Hd L : Nat → Int} {j : Nat} (hj : j < 8) (h : Hd j = 1) : ef Hd L j = L j := if_pos ⟨hj, h⟩
theorem ef_0 {Hd L : Nat → Int} {j : Nat} (h : Hd j ≠ 1) : ef Hd L j = 0 := if_neg (fun q => h q.2)
theorem ef_bd {Hd L : Nat → Int} (h : Hok Hd L) : ∀ i, 0 ≤ ef Hd L i ∧ ef Hd L i ≤ 60 := by
  intro i
  unfold ef
  split
  · rename_i q
    exact (h i q.1).2.1
  · omega
theorem ef_pos {Hd L : Nat → Int} (h : Hok Hd L) {j : Nat} (hj : j < 8) : 0 < ef Hd L j ↔ Hd j = 1 := by
  constructor
  · intro q
    rcases (h j hj).1 with e | e
    · rw [ef_0 (by omega)] at q; omega
    · exact e
  · intro e
    rw [ef_1 hj e]
    exact (h j hj).2.2 e
theorem rs_le (mc : Nat) (ℓ : Nat → Int) (N : Nat) : ∀ i, rs mc ℓ N i ≤ N
  | 0 => Nat.le_refl N
  | i + 1 => by
    have ih := rs_le mc ℓ N i
    show (if 0 < ℓ (7 - i) then rs mc ℓ N i / mc else rs mc ℓ N i) ≤ N
    split
    · exact Nat.le_trans (Nat.div_le_self _ _) ih
    · exact ih
theorem ld_bd {R ℓ g : Nat → Int} {m : Nat} (hR : 0 ≤ R m ∧ R m ≤ 60) (hl : ∀ i, 0 ≤ ℓ i ∧ ℓ i ≤ 60) : 0 ≤ ld R ℓ g m 8 ∧ ld R ℓ g m 8 ≤ 600 := by
  unfold ld
  have h2 : 0 ≤ sm (fun j => if g j = (m : Int) then ℓ j else 0) 8 := sm_nn (fun i hi => by
    have := hl i
    show 0 ≤ if g i = (m : Int) then ℓ i else 0
    split <;> omega)
  have h3 : sm (fun j => if g j = (m : Int) then ℓ j else 0) 8 ≤ (8 : Nat) * 60 := sm_ub (fun i hi => by
    have := hl i
    show (if g i = (m : Int) then ℓ i else 0) ≤ 60
    split <;> omega)
  omega
theorem chosen_congr {mc : Nat} {R ℓ P P' : Nat → Int} {b : Int} (hl : ∀ j, j < 8 → 0 ≤ ℓ j) (h : Chosen mc R ℓ b P) (he : ∀ j, j < 8 → 0 < ℓ j → P j = P' j) : Chosen mc R ℓ b P' := by
  obtain ⟨h1, h2, h3, h4⟩ := h
  refine ⟨fun j hj hlj => by rw [← he j hj hlj]; exact h1 j hj hlj, ends_congr hl he h2, h3, fun g hv hg j hj hlj hag => ?_⟩
  rw [← he j hj hlj]
  exact h4 g hv hg j hj hlj (fun i hi hli => by rw [he i (by omega) hli]; exact hag i hi hli)
theorem pw_le {mc c : Nat} (hmc1 : 1 ≤ mc) (hmc : mc ≤ 3) (hc : c ≤ 8) : 1 ≤ mc ^ c ∧ mc ^ c ≤ 6561 := by
  refine ⟨Nat.pow_pos hmc1, ?_⟩
  have h1 : mc ^ c ≤ 3 ^ c := Nat.pow_le_pow_left hmc c
  have h2 : 3 ^ c ≤ 3 ^ 8 := Nat.pow_le_pow_right (by omega) hc
  have h3 : 3 ^ 8 = 6561 := rfl
  omega
theorem cnt_full {ℓ : Nat → Int} : ∀ k, cnt ℓ k = k ↔ ∀ i, i < k → 0 < ℓ i
  | 0 => ⟨fun _ i hi => by omega, fun _ => rfl⟩
  | k + 1 => by
    have ih := cnt_full (ℓ := ℓ) k
    have hc := cnt_le ℓ k
    show (if 0 < ℓ k then cnt ℓ k + 1 else cnt ℓ k) = k + 1 ↔ _
    by_cases p : 0 < ℓ k
    · rw [if_pos p]
      constructor
      · intro h i hi
        by_cases e : i = k
        · subst e; exact p
        · exact ih.mp (by omega) i (by omega)
      · intro h
        rw [ih.mpr (fun i hi => h i (by omega))]
    · rw [if_neg p]
      constructor
      · intro h; omega
      · intro h; exact absurd (h k (by omega)) p
end
section
/-! BatchAdmissionModel: power, jobs, plans, lay, greatest, left -/
set_option maxRecDepth 100000
section Mod
variable {d dz : ClassId} {a : Nat → Nat} {mc : Nat} {dl : Int} {R Hd L G E : Nat → Int}
theorem y_l_power {k : JK} {rm : Room} (C : jC k cX2_power 4 RX2 [(d, .int), (dz, .boolean)] rm) (n : Nat) (hn : n ≤ 8) {ws : va_W} (hret : jI k cX2_power .int (fun v u => u = ws ∧ v = ((mc ^ n : Nat) : Int))) : ∀ (r i : Nat) (p : Int), i ≤ n → n - i < r → p = ((mc ^ i : Nat) : Int) → JJ k 0 0 ws 4 [(0, .int (zI ((mc : Nat) : Int))), (1, .int (zI ((n : Nat) : Int))), (2, .int (zI p)), (3, .int (zI ((i : Nat) : Int)))] [] := by
  intro r
  induction r with
  | zero => intro i p h1 h2; omega
  | succ r ih =>
    intro i p hi hr hp
    refine j_iload_n C dX2_power_4 3 rfl ?_
    refine j_iload_n C dX2_power_5 1 rfl ?_
    refine j_icmp_ge (tgt := 19) C dX2_power_6 (by decide) (by omega) (by omega) (fun b1 => ?_) (fun b1 => ?_)
    · refine j_iload_n C dX2_power_19 2 rfl ?_
      exact j_ret hret dX2_power_20 rfl (⟨rfl, by rw [hp, show i = n from by omega]⟩)
    · refine j_iload_n C dX2_power_9 2 rfl ?_
      refine j_iload_n C dX2_power_10 0 rfl ?_
      refine j_imul C dX2_power_11 ?_
      refine j_istore_n (lv' := [(0, .int (zI ((mc : Nat) : Int))), (1, .int (zI ((n : Nat) : Int))), (2, .int (zI (p * ((mc : Nat) : Int)))), (3, .int (zI ((i : Nat) : Int)))]) C dX2_power_12 (by decide) rfl rfl ?_
      refine j_iinc (lv' := [(0, .int (zI ((mc : Nat) : Int))), (1, .int (zI ((n : Nat) : Int))), (2, .int (zI (p * ((mc : Nat) : Int)))), (3, .int (zI (((i + 1) : Nat) : Int)))]) C (((i + 1) : Nat) : Int) dX2_power_13 3 rfl (by omega) (by decide) rfl rfl ?_
      refine j_goto (tgt := 4) C dX2_power_16 (by decide) ?_
      exact ih (i + 1) _ (by omega) (by omega) (by rw [hp, Nat.pow_succ, Int.natCast_mul])
/-- power(mc, n) -/
theorem y_power (l : Launch) (D : va_G) (n : Nat) (hn : n ≤ 8) {ws : va_W} : MI l yX2_power cX2_power 4 .int (rmd 0) D [(d, .int), (dz, .boolean)] [.int (zI ((mc : Nat) : Int)), .int (zI ((n : Nat) : Int))] ws (fun v u => u = ws ∧ v = ((mc ^ n : Nat) : Int)) := by
  refine mi_of RX2 rfl (by decide +kernel) (Nat.le_of_ble_eq_true rfl) (fun k hkl hkD C hret => ?_)
  show JJ k 0 0 ws 0 [(0, .int (zI ((mc : Nat) : Int))), (1, .int (zI ((n : Nat) : Int)))] []
  refine j_iconst C dX2_power_0 ?_
  refine j_istore_n (lv' := [(0, .int (zI ((mc : Nat) : Int))), (1, .int (zI ((n : Nat) : Int))), (2, .int (zI 1))]) C dX2_power_1 (by decide) rfl rfl ?_
  refine j_iconst C dX2_power_2 ?_
  refine j_istore_n (lv' := [(0, .int (zI ((mc : Nat) : Int))), (1, .int (zI ((n : Nat) : Int))), (2, .int (zI 1)), (3, .int (zI 0))]) C dX2_power_3 (by decide) rfl rfl ?_
  exact y_l_power C n hn hret (n + 1) 0 1 (by omega) (by omega) rfl
theorem y_l_jobs {k : JK} {rm : Room} (C : jC k cX2_jobs 3 RX2 [(d, .int), (dz, .boolean)] rm) (hH : Hok Hd L) (hret : jI k cX2_jobs .int (fun v u => u = yw d dz a mc dl R Hd L G E ∧ v = (cnt (ef Hd L) 8 : Nat))) : ∀ (n j c : Nat), j ≤ 8 → 8 - j < n → c = cnt (ef Hd L) j → JJ k 0 0 (yw d dz a mc dl R Hd L G E) 4 [(0, .ref (a 0)), (1, .int (zI ((c : Nat) : Int))), (2, .int (zI ((j : Nat) : Int)))] [] := by
  intro n
  induction n with
  | zero => intro j c h1 h2; omega
  | succ n ih =>
    intro j c hj hn hc
    refine j_iload_n C dX2_jobs_4 2 rfl ?_
    refine j_bipush C dX2_jobs_5 (by decide +kernel) ?_
    refine j_icmp_ge (tgt := 28) C dX2_jobs_7 (by decide) (by omega) (by omega) (fun h1 => ?_) (fun h1 => ?_)
    · refine j_iload_n C dX2_jobs_28 1 rfl ?_
      exact j_ret hret dX2_jobs_29 rfl (⟨rfl, by rw [hc, show j = 8 from by omega]⟩)
    · have hHj := (hH j (by omega)).1
      have hep := ef_pos hH (j := j) (by omega)
      refine j_aload_n C dX2_jobs_10 0 rfl ?_
      refine j_get (ci := 1) (v := .ref (a 2)) C in_X2 0 rfl rfl 3 (by decide) q183 rfl rfl dX2_jobs_11 ?_
      refine j_iload_n C dX2_jobs_14 2 rfl ?_
      refine j_zald (f := Hd) (v := (Hd j)) C 2 rfl rfl j (by omega) (by omega) (by decide) rfl dX2_jobs_15 ?_
      refine j_if_eq (tgt := 22) C dX2_jobs_16 (by decide) (by omega) (fun h2 => ?_) (fun h2 => ?_)
      · refine j_iinc (lv' := [(0, .ref (a 0)), (1, .int (zI ((c : Nat) : Int))), (2, .int (zI (((j + 1) : Nat) : Int)))]) C (((j + 1) : Nat) : Int) dX2_jobs_22 2 rfl (by omega) (by decide) rfl rfl ?_
        refine j_goto (tgt := 4) C dX2_jobs_25 (by decide) ?_
        exact ih (j + 1) c (by omega) (by omega) (by rw [hc]; show cnt (ef Hd L) j = if 0 < ef Hd L j then cnt (ef Hd L) j + 1 else cnt (ef Hd L) j; rw [if_neg (fun q => by have := hep.mp q; omega)])
      · refine j_iinc (lv' := [(0, .ref (a 0)), (1, .int (zI (((c + 1) : Nat) : Int))), (2, .int (zI ((j : Nat) : Int)))]) C (((c + 1) : Nat) : Int) dX2_jobs_19 1 rfl (by omega) (by decide) rfl rfl ?_
        refine j_iinc (lv' := [(0, .ref (a 0)), (1, .int (zI (((c + 1) : Nat) : Int))), (2, .int (zI (((j + 1) : Nat) : Int)))]) C (((j + 1) : Nat) : Int) dX2_jobs_22 2 rfl (by omega) (by decide) rfl rfl ?_
        refine j_goto (tgt := 4) C dX2_jobs_25 (by decide) ?_
        exact ih (j + 1) (c + 1) (by omega) (by omega) (by rw [hc]; show cnt (ef Hd L) j + 1 = if 0 < ef Hd L j then cnt (ef Hd L) j + 1 else cnt (ef Hd L) j; rw [if_pos (hep.mpr (by omega))])
/-- jobs(): how many jobs are held -/
theorem y_jobs (l : Launch) (D : va_G) (hH : Hok Hd L) : MI l yX2_jobs cX2_jobs 3 .int (rmd 0) D [(d, .int), (dz, .boolean)] [.ref (a 0)] (yw d dz a mc dl R Hd L G E) (fun v u => u = yw d dz a mc dl R Hd L G E ∧ v = (cnt (ef Hd L) 8 : Nat)) := by
  refine mi_of RX2 rfl (by decide +kernel) (Nat.le_of_ble_eq_true rfl) (fun k hkl hkD C hret => ?_)
  show JJ k 0 0 (yw d dz a mc dl R Hd L G E) 0 [(0, .ref (a 0))] []
  refine j_iconst C dX2_jobs_0 ?_
  refine j_istore_n (lv' := [(0, .ref (a 0)), (1, .int (zI 0))]) C dX2_jobs_1 (by decide) rfl rfl ?_
  refine j_iconst C dX2_jobs_2 ?_
  refine j_istore_n (lv' := [(0, .ref (a 0)), (1, .int (zI 0)), (2, .int (zI 0))]) C dX2_jobs_3 (by decide) rfl rfl ?_
  exact y_l_jobs C hH hret 9 0 0 (by omega) (by omega) rfl
/-- plans(): how many plans there are -/
theorem y_plans (l : Launch) (D : va_G) (hH : Hok Hd L) : MI l yX2_plans cX2_plans 2 .int (rmd 1) D [(d, .int), (dz, .boolean)] [.ref (a 0)] (yw d dz a mc dl R Hd L G E) (fun v u => u = yw d dz a mc dl R Hd L G E ∧ v = ((mc ^ cnt (ef Hd L) 8 : Nat) : Int)) := by
  refine mi_of RX2 rfl (by decide +kernel) (Nat.le_of_ble_eq_true rfl) (fun k hkl hkD C hret => ?_)
  show JJ k 0 0 (yw d dz a mc dl R Hd L G E) 0 [(0, .ref (a 0))] []
  refine j_aload_n C dX2_plans_0 0 rfl ?_
  refine j_calli (ci := 1) (n := 0) C (y_jobs (kl k) (kD k) hH) q207 q208 q209 q24 q210 (by decide +kernel) rfl rfl (by decide) rfl rfl (Nat.le_of_ble_eq_true rfl) dX2_plans_1 (fun v u hv => ?_)
  obtain ⟨rfl, rfl⟩ := hv
  refine j_istore_n (lv' := [(0, .ref (a 0)), (1, .int (zI (((cnt (ef Hd L) 8) : Nat) : Int)))]) C dX2_plans_4 (by decide) rfl rfl ?_
  refine j_aload_n C dX2_plans_5 0 rfl ?_
  refine j_get (ci := 1) (v := .int (zI ((mc : Nat) : Int))) C in_X2 0 rfl rfl 0 (by decide) q180 rfl rfl dX2_plans_6 ?_
  refine j_iload_n C dX2_plans_9 1 rfl ?_
  refine j_calls (n := 2) C (y_power (kl k) (kD k) (cnt (ef Hd L) 8) (cnt_le _ 8)) q219 q220 q24 q221 (by decide +kernel) (by decide) rfl rfl (Nat.le_of_ble_eq_true rfl) dX2_plans_10 (fun v u hv => ?_)
  obtain ⟨rfl, rfl⟩ := hv
  exact j_ret hret dX2_plans_13 rfl (⟨rfl, rfl⟩)
/-- lay(number): its end -/
def LayQ (d dz : ClassId) (a : Nat → Nat) (mc : Nat) (dl : Int) (R Hd L : Nat → Int) (N : Nat) (u : va_W) : Prop := ∃ G E : Nat → Int, u = yw d dz a mc dl R Hd L G E ∧ (∀ j, j < 8 → 0 < ef Hd L j → G j = dg mc (ef Hd L) N j) ∧ ∀ m, m < mc → E m = ld R (ef Hd L) (dg mc (ef Hd L) N) m 8
theorem y_l_lay2 {k : JK} {rm : Room} (C : jC k cX2_lay 4 RX2 [(d, .int), (dz, .boolean)] rm) (hmc1 : 1 ≤ mc) (hmc : mc ≤ 3) (hH : Hok Hd L) (N : Nat) (hN : N < 10000) (hret : jV k cX2_lay (LayQ d dz a mc dl R Hd L N)) : ∀ (t re : Nat) (G E : Nat → Int), t ≤ 8 → re = rs mc (ef Hd L) N (8 - t) → (∀ j, t ≤ j → j < 8 → 0 < ef Hd L j → G j = dg mc (ef Hd L) N j) → (∀ m, m < mc → E m = R m + (sm (fun z => if dg mc (ef Hd L) N z = (m : Int) then ef Hd L z else 0) 8 - sm (fun z => if dg mc (ef Hd L) N z = (m : Int) then ef Hd L z else 0) t)) → JJ k 0 0 (yw d dz a mc dl R Hd L G E) 33 [(0, .ref (a 0)), (1, .int (zI ((N : Nat) : Int))), (2, .int (zI ((re : Nat) : Int))), (3, .int (zI (((t : Nat) : Int) - 1)))] [] := by
  intro t
  induction t with
  | zero =>
    intro re G E ht hre hG hE
    refine j_iload_n C dX2_lay_33 3 rfl ?_
    refine j_if_lt (tgt := 98) C dX2_lay_34 (by decide) (by omega) (fun b1 => ?_) (fun b1 => ?_)
    · exact j_vret hret dX2_lay_98 (⟨G, E, rfl, fun j hj => hG j (by omega) hj, fun m hm => by rw [hE m hm, sm_0]; unfold ld; omega⟩)
    · exact absurd (show (((0 : Nat) : Int) - 1) < 0 by omega) b1
  | succ t ih =>
    intro re G E ht hre hG hE
    have hHt := hH t (by omega)
    have hep := ef_pos hH (j := t) (by omega)
    have hrb : re ≤ N := by rw [hre]; exact rs_le _ _ _ _
    have hrs : rs mc (ef Hd L) N (8 - t) = if 0 < ef Hd L t then re / mc else re := by
      rw [show 8 - t = (8 - (t + 1)) + 1 from by omega]
      show (if 0 < ef Hd L (7 - (8 - (t + 1))) then rs mc (ef Hd L) N (8 - (t + 1)) / mc else rs mc (ef Hd L) N (8 - (t + 1))) = _
      rw [← hre, show 7 - (8 - (t + 1)) = t from by omega]
    rw [show ((((t + 1 : Nat) : Int)) - 1) = ((t : Nat) : Int) from by omega]
    refine j_iload_n C dX2_lay_33 3 rfl ?_
    refine j_if_lt (tgt := 98) C dX2_lay_34 (by decide) (by omega) (fun b1 => ?_) (fun b1 => ?_)
    · omega
    · refine j_aload_n C dX2_lay_37 0 rfl ?_
      refine j_get (ci := 1) (v := .ref (a 2)) C in_X2 0 rfl rfl 3 (by decide) q183 rfl rfl dX2_lay_38 ?_
      refine j_iload_n C dX2_lay_41 3 rfl ?_
      refine j_zald (f := Hd) (v := (Hd t)) C 2 rfl rfl t (by omega) (by omega) (by decide) rfl dX2_lay_42 ?_
      refine j_if_eq (tgt := 92) C dX2_lay_43 (by decide) (by omega) (fun b2 => ?_) (fun b2 => ?_)
      · have hz : ¬ 0 < ef Hd L t := fun q => by have := hep.mp q; omega
        have hz0 : ef Hd L t = 0 := ef_0 (by omega)
        refine j_iinc (lv' := [(0, .ref (a 0)), (1, .int (zI ((N : Nat) : Int))), (2, .int (zI ((re : Nat) : Int))), (3, .int (zI (((t : Nat) : Int) - 1)))]) C (((t : Nat) : Int) - 1) dX2_lay_92 3 rfl (by omega) (by decide) rfl rfl ?_
        refine j_goto (tgt := 33) C dX2_lay_95 (by decide) ?_
        exact ih re G E (by omega) (by rw [hrs, if_neg hz]) (fun j h1 h2 h3 => by
          by_cases e : j = t
          · subst e; exact absurd h3 hz
          · exact hG j (by omega) h2 h3) (fun m hm => by
          rw [hE m hm, sm_s _ t, hz0]
          split <;> omega)
      · have hp : 0 < ef Hd L t := hep.mpr (by omega)
        have hL1 : ef Hd L t = L t := ef_1 (by omega) (by omega)
        have hdg : dg mc (ef Hd L) N t = ((re % mc : Nat) : Int) := by
          unfold dg
          rw [hre, show 7 - t = 8 - (t + 1) from by omega]
        have hmod := Nat.mod_lt re (show 0 < mc by omega)
        refine j_aload_n C dX2_lay_46 0 rfl ?_
        refine j_get (ci := 1) (v := .int (zI ((mc : Nat) : Int))) C in_X2 0 rfl rfl 0 (by decide) q180 rfl rfl dX2_lay_47 ?_
        refine j_if_le (tgt := 92) C dX2_lay_50 (by decide) (by omega) (fun b3 => ?_) (fun b3 => ?_)
        · omega
        · refine j_aload_n C dX2_lay_53 0 rfl ?_
          refine j_get (ci := 1) (v := .ref (a 4)) C in_X2 0 rfl rfl 5 (by decide) q185 rfl rfl dX2_lay_54 ?_
          refine j_iload_n C dX2_lay_57 3 rfl ?_
          refine j_iload_n C dX2_lay_58 2 rfl ?_
          refine j_aload_n C dX2_lay_59 0 rfl ?_
          refine j_get (ci := 1) (v := .int (zI ((mc : Nat) : Int))) C in_X2 0 rfl rfl 0 (by decide) q180 rfl rfl dX2_lay_60 ?_
          refine j_irem C dX2_lay_63 (by omega) (by omega) ?_
          rw [show ((re : Nat) : Int) % ((mc : Nat) : Int) = ((re % mc : Nat) : Int) from (Int.natCast_emod _ _).symm]
          refine j_ast (f := G) (ws' := (yw d dz a mc dl R Hd L (zU G t (((re % mc) : Nat) : Int)) E)) C 4 rfl rfl t (by omega) (by omega) (by decide) dX2_lay_64 rfl ?_
          refine j_iload_n C dX2_lay_65 2 rfl ?_
          refine j_aload_n C dX2_lay_66 0 rfl ?_
          refine j_get (ci := 1) (v := .int (zI ((mc : Nat) : Int))) C in_X2 0 rfl rfl 0 (by decide) q180 rfl rfl dX2_lay_67 ?_
          refine j_idiv C dX2_lay_70 (by omega) (by omega) ?_
          rw [show ((re : Nat) : Int) / ((mc : Nat) : Int) = ((re / mc : Nat) : Int) from (Int.natCast_ediv _ _).symm]
          refine j_istore_n (lv' := [(0, .ref (a 0)), (1, .int (zI ((N : Nat) : Int))), (2, .int (zI (((re / mc) : Nat) : Int))), (3, .int (zI ((t : Nat) : Int)))]) C dX2_lay_71 (by decide) rfl rfl ?_
          refine j_aload_n C dX2_lay_72 0 rfl ?_
          refine j_get (ci := 1) (v := .ref (a 5)) C in_X2 0 rfl rfl 6 (by decide) q186 rfl rfl dX2_lay_73 ?_
          refine j_aload_n C dX2_lay_76 0 rfl ?_
          refine j_get (ci := 1) (v := .ref (a 4)) C in_X2 0 rfl rfl 5 (by decide) q185 rfl rfl dX2_lay_77 ?_
          refine j_iload_n C dX2_lay_80 3 rfl ?_
          refine j_ald (f := (zU G t (((re % mc) : Nat) : Int))) (v := (((re % mc) : Nat) : Int)) C 4 rfl rfl t (by omega) (by omega) (by decide) (zU_s) dX2_lay_81 ?_
          refine j_dup2 C dX2_lay_82 rfl rfl ?_
          refine j_ald (f := E) (v := (E (re % mc))) C 5 rfl rfl (re % mc) (by omega) (by omega) (by decide) rfl dX2_lay_83 ?_
          refine j_aload_n C dX2_lay_84 0 rfl ?_
          refine j_get (ci := 1) (v := .ref (a 3)) C in_X2 0 rfl rfl 4 (by decide) q184 rfl rfl dX2_lay_85 ?_
          refine j_iload_n C dX2_lay_88 3 rfl ?_
          refine j_ald (f := L) (v := (L t)) C 3 rfl rfl t (by omega) (by omega) (by decide) rfl dX2_lay_89 ?_
          refine j_iadd C dX2_lay_90 ?_
          refine j_ast (f := E) (ws' := (yw d dz a mc dl R Hd L (zU G t (((re % mc) : Nat) : Int)) (zU E (re % mc) ((E (re % mc)) + (L t))))) C 5 rfl rfl (re % mc) (by omega) (by omega) (by decide) dX2_lay_91 rfl ?_
          refine j_iinc (lv' := [(0, .ref (a 0)), (1, .int (zI ((N : Nat) : Int))), (2, .int (zI (((re / mc) : Nat) : Int))), (3, .int (zI (((t : Nat) : Int) - 1)))]) C (((t : Nat) : Int) - 1) dX2_lay_92 3 rfl (by omega) (by decide) rfl rfl ?_
          refine j_goto (tgt := 33) C dX2_lay_95 (by decide) ?_
          exact ih (re / mc) _ _ (by omega) (by rw [hrs, if_pos hp]) (fun j h1 h2 h3 => by
            by_cases e : j = t
            · subst e; rw [zU_s, hdg]
            · rw [zU_n e]; exact hG j (by omega) h2 h3) (fun m hm => by
            have h0 := hE m hm
            rw [sm_s _ t, hdg, hL1] at h0
            by_cases e : m = re % mc
            · subst e
              rw [zU_s]
              rw [if_pos rfl] at h0
              omega
            · rw [zU_n e]
              rw [if_neg (by omega)] at h0
              omega)
theorem y_l_lay1 {k : JK} {rm : Room} (C : jC k cX2_lay 4 RX2 [(d, .int), (dz, .boolean)] rm) (hmc1 : 1 ≤ mc) (hmc : mc ≤ 3) (hH : Hok Hd L) (N : Nat) (hN : N < 10000) (hret : jV k cX2_lay (LayQ d dz a mc dl R Hd L N)) : ∀ (n m : Nat) (E : Nat → Int), m ≤ mc → mc - m < n → (∀ i, i < m → E i = R i) → JJ k 0 0 (yw d dz a mc dl R Hd L G E) 4 [(0, .ref (a 0)), (1, .int (zI ((N : Nat) : Int))), (2, .int (zI ((N : Nat) : Int))), (3, .int (zI ((m : Nat) : Int)))] [] := by
  intro n
  induction n with
  | zero => intro m E h1 h2; omega
  | succ n ih =>
    intro m E hm hn hi
    refine j_iload_n C dX2_lay_4 3 rfl ?_
    refine j_aload_n C dX2_lay_5 0 rfl ?_
    refine j_get (ci := 1) (v := .int (zI ((mc : Nat) : Int))) C in_X2 0 rfl rfl 0 (by decide) q180 rfl rfl dX2_lay_6 ?_
    refine j_icmp_ge (tgt := 30) C dX2_lay_9 (by decide) (by omega) (by omega) (fun b1 => ?_) (fun b1 => ?_)
    · refine j_bipush C dX2_lay_30 (by decide +kernel) ?_
      refine j_istore_n (lv' := [(0, .ref (a 0)), (1, .int (zI ((N : Nat) : Int))), (2, .int (zI ((N : Nat) : Int))), (3, .int (zI 7))]) C dX2_lay_32 (by decide) rfl rfl ?_
      exact y_l_lay2 C hmc1 hmc hH N hN hret 8 N G E (by omega) rfl (fun j h1 h2 => by omega) (fun i hh => by rw [hi i (by omega)]; omega)
    · refine j_aload_n C dX2_lay_12 0 rfl ?_
      refine j_get (ci := 1) (v := .ref (a 5)) C in_X2 0 rfl rfl 6 (by decide) q186 rfl rfl dX2_lay_13 ?_
      refine j_iload_n C dX2_lay_16 3 rfl ?_
      refine j_aload_n C dX2_lay_17 0 rfl ?_
      refine j_get (ci := 1) (v := .ref (a 1)) C in_X2 0 rfl rfl 2 (by decide) q182 rfl rfl dX2_lay_18 ?_
      refine j_iload_n C dX2_lay_21 3 rfl ?_
      refine j_ald (f := R) (v := (R m)) C 1 rfl rfl m (by omega) (by omega) (by decide) rfl dX2_lay_22 ?_
      refine j_ast (f := E) (ws' := (yw d dz a mc dl R Hd L G (zU E m (R m)))) C 5 rfl rfl m (by omega) (by omega) (by decide) dX2_lay_23 rfl ?_
      refine j_iinc (lv' := [(0, .ref (a 0)), (1, .int (zI ((N : Nat) : Int))), (2, .int (zI ((N : Nat) : Int))), (3, .int (zI (((m + 1) : Nat) : Int)))]) C (((m + 1) : Nat) : Int) dX2_lay_24 3 rfl (by omega) (by decide) rfl rfl ?_
      refine j_goto (tgt := 4) C dX2_lay_27 (by decide) ?_
      exact ih (m + 1) _ (by omega) (by omega) (fun i hh => by
        by_cases e : i = m
        · subst e; rw [zU_s]
        · rw [zU_n e]; exact hi i (by omega))
/-- lay(number): given and ends are those of the plan with the number -/
theorem y_lay (l : Launch) (D : va_G) (hmc1 : 1 ≤ mc) (hmc : mc ≤ 3) (hH : Hok Hd L) (N : Nat) (hN : N < 10000) : MV l yX2_lay cX2_lay 4 (rmd 0) D [(d, .int), (dz, .boolean)] [.ref (a 0), .int (zI ((N : Nat) : Int))] (yw d dz a mc dl R Hd L G E) (LayQ d dz a mc dl R Hd L N) := by
  refine mv_of RX2 rfl (by decide +kernel) (Nat.le_of_ble_eq_true rfl) (fun k hkl hkD C hret => ?_)
  show JJ k 0 0 (yw d dz a mc dl R Hd L G E) 0 [(0, .ref (a 0)), (1, .int (zI ((N : Nat) : Int)))] []
  refine j_iload_n C dX2_lay_0 1 rfl ?_
  refine j_istore_n (lv' := [(0, .ref (a 0)), (1, .int (zI ((N : Nat) : Int))), (2, .int (zI ((N : Nat) : Int)))]) C dX2_lay_1 (by decide) rfl rfl ?_
  refine j_iconst C dX2_lay_2 ?_
  refine j_istore_n (lv' := [(0, .ref (a 0)), (1, .int (zI ((N : Nat) : Int))), (2, .int (zI ((N : Nat) : Int))), (3, .int (zI 0))]) C dX2_lay_3 (by decide) rfl rfl ?_
  exact y_l_lay1 C hmc1 hmc hH N hN hret 4 0 E (by omega) (by omega) (fun i h => by omega)
theorem y_l_greatest {k : JK} {rm : Room} (C : jC k cX2_greatest 3 RX2 [(d, .int), (dz, .boolean)] rm) (hmc1 : 1 ≤ mc) (hmc : mc ≤ 3) (hE : ∀ i, i < mc → 0 ≤ E i ∧ E i ≤ 600) (hret : jI k cX2_greatest .int (fun v u => u = yw d dz a mc dl R Hd L G E ∧ IsMax mc E v)) : ∀ (n m : Nat) (mo : Int), m ≤ mc → mc - m < n → (0 ≤ mo ∧ mo ≤ 600) → (∀ i, i < m → E i ≤ mo) → (mo = 0 ∨ ∃ i, i < m ∧ E i = mo) → JJ k 0 0 (yw d dz a mc dl R Hd L G E) 4 [(0, .ref (a 0)), (1, .int (zI mo)), (2, .int (zI ((m : Nat) : Int)))] [] := by
  intro n
  induction n with
  | zero => intro m mo h1 h2; omega
  | succ n ih =>
    intro m mo hm hn hb hi hx
    refine j_iload_n C dX2_greatest_4 2 rfl ?_
    refine j_aload_n C dX2_greatest_5 0 rfl ?_
    refine j_get (ci := 1) (v := .int (zI ((mc : Nat) : Int))) C in_X2 0 rfl rfl 0 (by decide) q180 rfl rfl dX2_greatest_6 ?_
    refine j_icmp_ge (tgt := 35) C dX2_greatest_9 (by decide) (by omega) (by omega) (fun b1 => ?_) (fun b1 => ?_)
    · have em : m = mc := by omega
      subst em
      have hmax : IsMax m E mo := ⟨hi, by
        rcases hx with h | h
        · have h1 := hi 0 (by omega)
          have h2 := (hE 0 (by omega)).1
          exact ⟨0, by omega, by omega⟩
        · exact h⟩
      refine j_iload_n C dX2_greatest_35 1 rfl ?_
      exact j_ret hret dX2_greatest_36 rfl ⟨rfl, hmax⟩
    · have hEm := hE m (by omega)
      refine j_aload_n C dX2_greatest_12 0 rfl ?_
      refine j_get (ci := 1) (v := .ref (a 5)) C in_X2 0 rfl rfl 6 (by decide) q186 rfl rfl dX2_greatest_13 ?_
      refine j_iload_n C dX2_greatest_16 2 rfl ?_
      refine j_ald (f := E) (v := (E m)) C 5 rfl rfl m (by omega) (by omega) (by decide) rfl dX2_greatest_17 ?_
      refine j_iload_n C dX2_greatest_18 1 rfl ?_
      refine j_icmp_le (tgt := 29) C dX2_greatest_19 (by decide) (by omega) (by omega) (fun b2 => ?_) (fun b2 => ?_)
      · refine j_iinc (lv' := [(0, .ref (a 0)), (1, .int (zI mo)), (2, .int (zI (((m + 1) : Nat) : Int)))]) C (((m + 1) : Nat) : Int) dX2_greatest_29 2 rfl (by omega) (by decide) rfl rfl ?_
        refine j_goto (tgt := 4) C dX2_greatest_32 (by decide) ?_
        exact ih (m + 1) mo (by omega) (by omega) hb (fun i hh => by
          by_cases e : i = m
          · subst e; exact b2
          · exact hi i (by omega)) (by
          rcases hx with h | ⟨i, h1, h2⟩
          · exact Or.inl h
          · exact Or.inr ⟨i, by omega, h2⟩)
      · refine j_aload_n C dX2_greatest_22 0 rfl ?_
        refine j_get (ci := 1) (v := .ref (a 5)) C in_X2 0 rfl rfl 6 (by decide) q186 rfl rfl dX2_greatest_23 ?_
        refine j_iload_n C dX2_greatest_26 2 rfl ?_
        refine j_ald (f := E) (v := (E m)) C 5 rfl rfl m (by omega) (by omega) (by decide) rfl dX2_greatest_27 ?_
        refine j_istore_n (lv' := [(0, .ref (a 0)), (1, .int (zI (E m))), (2, .int (zI ((m : Nat) : Int)))]) C dX2_greatest_28 (by decide) rfl rfl ?_
        refine j_iinc (lv' := [(0, .ref (a 0)), (1, .int (zI (E m))), (2, .int (zI (((m + 1) : Nat) : Int)))]) C (((m + 1) : Nat) : Int) dX2_greatest_29 2 rfl (by omega) (by decide) rfl rfl ?_
        refine j_goto (tgt := 4) C dX2_greatest_32 (by decide) ?_
        exact ih (m + 1) _ (by omega) (by omega) hEm (fun i hh => by
          by_cases e : i = m
          · subst e; exact Int.le_refl _
          · have := hi i (by omega); omega) (Or.inr ⟨m, by omega, rfl⟩)
/-- greatest(): the greatest end -/
theorem y_greatest (l : Launch) (D : va_G) (hmc1 : 1 ≤ mc) (hmc : mc ≤ 3) (hE : ∀ i, i < mc → 0 ≤ E i ∧ E i ≤ 600) : MI l yX2_greatest cX2_greatest 3 .int (rmd 0) D [(d, .int), (dz, .boolean)] [.ref (a 0)] (yw d dz a mc dl R Hd L G E) (fun v u => u = yw d dz a mc dl R Hd L G E ∧ IsMax mc E v) := by
  refine mi_of RX2 rfl (by decide +kernel) (Nat.le_of_ble_eq_true rfl) (fun k hkl hkD C hret => ?_)
  show JJ k 0 0 (yw d dz a mc dl R Hd L G E) 0 [(0, .ref (a 0))] []
  refine j_iconst C dX2_greatest_0 ?_
  refine j_istore_n (lv' := [(0, .ref (a 0)), (1, .int (zI 0))]) C dX2_greatest_1 (by decide) rfl rfl ?_
  refine j_iconst C dX2_greatest_2 ?_
  refine j_istore_n (lv' := [(0, .ref (a 0)), (1, .int (zI 0)), (2, .int (zI 0))]) C dX2_greatest_3 (by decide) rfl rfl ?_
  exact y_l_greatest C hmc1 hmc hE hret 4 0 0 (by omega) (by omega) (by omega) (fun i h => by omega) (Or.inl rfl)
theorem y_l_left {k : JK} {rm : Room} (C : jC k cX2_left 3 RX2 [(d, .int), (dz, .boolean)] rm) (p : Nat) (hp : p < mc) (hdl : 0 ≤ dl ∧ dl ≤ 300) (hmc : mc ≤ 3) (hE : ∀ i, i < mc → 0 ≤ E i ∧ E i ≤ 600) (hret : jI k cX2_left .int (fun v u => u = yw d dz a mc dl R Hd L G E ∧ ((v = dl - E p ∧ ∀ q, q < mc → q ≠ p → E q ≤ dl) ∨ (v = -1 ∧ ¬ ∀ q, q < mc → q ≠ p → E q ≤ dl)))) : ∀ (n q : Nat), q ≤ mc → mc - q < n → (∀ i, i < q → i ≠ p → E i ≤ dl) → JJ k 0 0 (yw d dz a mc dl R Hd L G E) 2 [(0, .ref (a 0)), (1, .int (zI ((p : Nat) : Int))), (2, .int (zI ((q : Nat) : Int)))] [] := by
  intro n
  induction n with
  | zero => intro q h1 h2; omega
  | succ n ih =>
    intro q hq hn hi
    refine j_iload_n C dX2_left_2 2 rfl ?_
    refine j_aload_n C dX2_left_3 0 rfl ?_
    refine j_get (ci := 1) (v := .int (zI ((mc : Nat) : Int))) C in_X2 0 rfl rfl 0 (by decide) q180 rfl rfl dX2_left_4 ?_
    refine j_icmp_ge (tgt := 36) C dX2_left_7 (by decide) (by omega) (by omega) (fun b1 => ?_) (fun b1 => ?_)
    · refine j_aload_n C dX2_left_36 0 rfl ?_
      refine j_get (ci := 1) (v := .int (zI dl)) C in_X2 0 rfl rfl 1 (by decide) q181 rfl rfl dX2_left_37 ?_
      refine j_aload_n C dX2_left_40 0 rfl ?_
      refine j_get (ci := 1) (v := .ref (a 5)) C in_X2 0 rfl rfl 6 (by decide) q186 rfl rfl dX2_left_41 ?_
      refine j_iload_n C dX2_left_44 1 rfl ?_
      refine j_ald (f := E) (v := (E p)) C 5 rfl rfl p (by omega) (by omega) (by decide) rfl dX2_left_45 ?_
      refine j_isub C dX2_left_46 ?_
      exact j_ret hret dX2_left_47 rfl (⟨rfl, Or.inl ⟨rfl, fun i h1 h2 => hi i (by omega) h2⟩⟩)
    · refine j_iload_n C dX2_left_10 2 rfl ?_
      refine j_iload_n C dX2_left_11 1 rfl ?_
      refine j_icmp_eq (tgt := 30) C dX2_left_12 (by decide) (by omega) (by omega) (fun b2 => ?_) (fun b2 => ?_)
      · refine j_iinc (lv' := [(0, .ref (a 0)), (1, .int (zI ((p : Nat) : Int))), (2, .int (zI (((q + 1) : Nat) : Int)))]) C (((q + 1) : Nat) : Int) dX2_left_30 2 rfl (by omega) (by decide) rfl rfl ?_
        refine j_goto (tgt := 2) C dX2_left_33 (by decide) ?_
        exact ih (q + 1) (by omega) (by omega) (fun i h1 h2 => by
          by_cases e : i = q
          · omega
          · exact hi i (by omega) h2)
      · have hEq := hE q (by omega)
        refine j_aload_n C dX2_left_15 0 rfl ?_
        refine j_get (ci := 1) (v := .ref (a 5)) C in_X2 0 rfl rfl 6 (by decide) q186 rfl rfl dX2_left_16 ?_
        refine j_iload_n C dX2_left_19 2 rfl ?_
        refine j_ald (f := E) (v := (E q)) C 5 rfl rfl q (by omega) (by omega) (by decide) rfl dX2_left_20 ?_
        refine j_aload_n C dX2_left_21 0 rfl ?_
        refine j_get (ci := 1) (v := .int (zI dl)) C in_X2 0 rfl rfl 1 (by decide) q181 rfl rfl dX2_left_22 ?_
        refine j_icmp_le (tgt := 30) C dX2_left_25 (by decide) (by omega) (by omega) (fun b3 => ?_) (fun b3 => ?_)
        · refine j_iinc (lv' := [(0, .ref (a 0)), (1, .int (zI ((p : Nat) : Int))), (2, .int (zI (((q + 1) : Nat) : Int)))]) C (((q + 1) : Nat) : Int) dX2_left_30 2 rfl (by omega) (by decide) rfl rfl ?_
          refine j_goto (tgt := 2) C dX2_left_33 (by decide) ?_
          exact ih (q + 1) (by omega) (by omega) (fun i h1 h2 => by
            by_cases e : i = q
            · subst e; exact b3
            · exact hi i (by omega) h2)
        · refine j_iconst C dX2_left_28 ?_
          exact j_ret hret dX2_left_29 rfl (⟨rfl, Or.inr ⟨rfl, fun h => b3 (h q (by omega) (by omega))⟩⟩)
/-- left(p): the time that machine p has left; -1 if another ends after the deadline -/
theorem y_left (l : Launch) (D : va_G) (p : Nat) (hp : p < mc) (hdl : 0 ≤ dl ∧ dl ≤ 300) (hmc : mc ≤ 3) (hE : ∀ i, i < mc → 0 ≤ E i ∧ E i ≤ 600) : MI l yX2_left cX2_left 3 .int (rmd 0) D [(d, .int), (dz, .boolean)] [.ref (a 0), .int (zI ((p : Nat) : Int))] (yw d dz a mc dl R Hd L G E) (fun v u => u = yw d dz a mc dl R Hd L G E ∧ ((v = dl - E p ∧ ∀ q, q < mc → q ≠ p → E q ≤ dl) ∨ (v = -1 ∧ ¬ ∀ q, q < mc → q ≠ p → E q ≤ dl))) := by
  refine mi_of RX2 rfl (by decide +kernel) (Nat.le_of_ble_eq_true rfl) (fun k hkl hkD C hret => ?_)
  show JJ k 0 0 (yw d dz a mc dl R Hd L G E) 0 [(0, .ref (a 0)), (1, .int (zI ((p : Nat) : Int)))] []
  refine j_iconst C dX2_left_0 ?_
  refine j_istore_n (lv' := [(0, .ref (a 0)), (1, .int (zI ((p : Nat) : Int))), (2, .int (zI 0))]) C dX2_left_1 (by decide) rfl rfl ?_
  exact y_l_left C p hp hdl hmc hE hret 4 0 (by omega) (by omega) (fun i h => by omega)
end Mod
end
section
/-! BatchAdmissionModel: choose, most, and what is public -/
set_option maxRecDepth 100000
def YS (d dz : ClassId) (a : Nat → Nat) (mc : Nat) (dl : Int) (R Hd L : Nat → Int) (u : va_W) : Prop := ∃ G E : Nat → Int, u = yw d dz a mc dl R Hd L G E
section Mod2
variable {d dz : ClassId} {a : Nat → Nat} {mc : Nat} {dl : Int} {R Hd L G E : Nat → Int}
/-- choose(): its end -/
def ChQ (d dz : ClassId) (a : Nat → Nat) (mc : Nat) (dl : Int) (R Hd L : Nat → Int) (v : Int) (u : va_W) : Prop := ∃ G E : Nat → Int, u = yw d dz a mc dl R Hd L G E ∧ Chosen mc R (ef Hd L) v G ∧ ∀ m, m < mc → E m = ld R (ef Hd L) G m 8
/-- how far choose has come: the numbers below N are tried -/
def Tried (mc : Nat) (R ℓ : Nat → Int) (N b : Nat) (v : Int) : Prop := (N = 0 ∧ b = 0 ∧ v = 100000) ∨ (b < N ∧ (0 ≤ v ∧ v ≤ 600) ∧ Ends mc R ℓ (dg mc ℓ b) v ∧ (∀ M, M < b → ¬ Ends mc R ℓ (dg mc ℓ M) v) ∧ ∀ M, M < N → ∀ lim, Ends mc R ℓ (dg mc ℓ M) lim → v ≤ lim)
theorem tried_new {mc : Nat} {R ℓ : Nat → Int} {N b : Nat} {v w : Int} (h : Tried mc R ℓ N b v) (hw : 0 ≤ w ∧ w ≤ 600) (hm : IsMax mc (fun m => ld R ℓ (dg mc ℓ N) m 8) w) (hlt : w < v) : Tried mc R ℓ (N + 1) N w := by
    obtain ⟨h1, m0, h2, h3⟩ := hm
    refine Or.inr ⟨by omega, hw, h1, fun M hM he => ?_, fun M hM lim he => ?_⟩
    · rcases h with ⟨h, -⟩ | ⟨-, -, -, -, h⟩
      · omega
      · have := h M hM w he
        omega
    · by_cases e : M = N
      · subst e
        have := he m0 h2
        have h4 : ld R ℓ (dg mc ℓ M) m0 8 = w := h3
        omega
      · rcases h with ⟨h, -⟩ | ⟨-, -, -, -, h⟩
        · omega
        · have := h M (by omega) lim he
          omega
theorem tried_old {mc : Nat} {R ℓ : Nat → Int} {N b : Nat} {v w : Int} (h : Tried mc R ℓ N b v) (hw : 0 ≤ w ∧ w ≤ 600) (hm : IsMax mc (fun m => ld R ℓ (dg mc ℓ N) m 8) w) (hge : v ≤ w) : Tried mc R ℓ (N + 1) b v := by
    obtain ⟨h1, m0, h2, h3⟩ := hm
    rcases h with ⟨-, -, h⟩ | ⟨a1, a2, a3, a4, a5⟩
    · omega
    · refine Or.inr ⟨by omega, a2, a3, a4, fun M hM lim he => ?_⟩
      by_cases e : M = N
      · subst e
        have := he m0 h2
        have h4 : ld R ℓ (dg mc ℓ M) m0 8 = w := h3
        omega
      · exact a5 M (by omega) lim he
theorem y_l_choose {k : JK} (C : jC k cX2_choose 6 RX2 [(d, .int), (dz, .boolean)] (rmd 2)) (hmc1 : 1 ≤ mc) (hmc : mc ≤ 3) (hR : ∀ i, i < 3 → 0 ≤ R i ∧ R i ≤ 60) (hH : Hok Hd L) (all : Nat) (hall : all = mc ^ cnt (ef Hd L) 8) (hret : jI k cX2_choose .int (ChQ d dz a mc dl R Hd L)) : ∀ (n N b : Nat) (v : Int) (G E : Nat → Int), N ≤ all → all - N < n → Tried mc R (ef Hd L) N b v → JJ k 0 0 (yw d dz a mc dl R Hd L G E) 13 [(0, .ref (a 0)), (1, .int (zI ((b : Nat) : Int))), (2, .int (zI v)), (3, .int (zI ((all : Nat) : Int))), (4, .int (zI ((N : Nat) : Int)))] [] := by
  have hab := pw_le (c := cnt (ef Hd L) 8) hmc1 hmc (cnt_le _ 8)
  have hb := ef_bd hH
  intro n
  induction n with
  | zero => intro N b v G E h1 h2; omega
  | succ n ih =>
    intro N b v G E hN hn ht
    have hvb : 0 ≤ v ∧ v ≤ 100000 := by rcases ht with ⟨-, -, h⟩ | ⟨-, h, -⟩ <;> omega
    refine j_iload C dX2_choose_13 4 rfl ?_
    refine j_iload_n C dX2_choose_15 3 rfl ?_
    refine j_icmp_ge (tgt := 49) C dX2_choose_16 (by decide) (by omega) (by omega) (fun b1 => ?_) (fun b1 => ?_)
    · have ht' : b < N ∧ (0 ≤ v ∧ v ≤ 600) ∧ Ends mc R (ef Hd L) (dg mc (ef Hd L) b) v ∧ (∀ M, M < b → ¬ Ends mc R (ef Hd L) (dg mc (ef Hd L) M) v) ∧ ∀ M, M < N → ∀ lim, Ends mc R (ef Hd L) (dg mc (ef Hd L) M) lim → v ≤ lim := by
        rcases ht with ⟨h, -⟩ | h
        · omega
        · exact h
      obtain ⟨t1, t2, t3, t4, t5⟩ := ht'
      have hch := chosen_of_num (N := b) hmc1 (fun j _ => (hb j).1) (by omega) t3 (fun M hM => t5 M (by omega)) t4
      refine j_aload_n C dX2_choose_49 0 rfl ?_
      refine j_iload_n C dX2_choose_50 1 rfl ?_
      refine j_callv (ci := 1) (n := 1) C (y_lay (kl k) (kD k) hmc1 hmc hH b (by omega)) q222 q224 qs18 q24 q225 (by decide +kernel) rfl rfl (by decide) rfl rfl (Nat.le_of_ble_eq_true rfl) dX2_choose_51 (fun u hu => ?_)
      obtain ⟨G, E, rfl, hG, hE⟩ := hu
      refine j_iload_n C dX2_choose_54 2 rfl ?_
      exact j_ret hret dX2_choose_55 rfl (⟨G, E, rfl, chosen_congr (fun j _ => (hb j).1) hch (fun j hj hl => (hG j hj hl).symm), fun m hm => by rw [hE m hm]; exact ld_congr (fun j _ => (hb j).1) (fun j hj hl => (hG j hj hl).symm)⟩)
    · refine j_aload_n C dX2_choose_19 0 rfl ?_
      refine j_iload C dX2_choose_20 4 rfl ?_
      refine j_callv (ci := 1) (n := 1) C (y_lay (kl k) (kD k) hmc1 hmc hH N (by omega)) q222 q224 qs18 q24 q225 (by decide +kernel) rfl rfl (by decide) rfl rfl (Nat.le_of_ble_eq_true rfl) dX2_choose_22 (fun u hu => ?_)
      obtain ⟨G, E, rfl, hG, hE⟩ := hu
      have hEb : ∀ i, i < mc → 0 ≤ E i ∧ E i ≤ 600 := fun i hi => by rw [hE i hi]; exact ld_bd (hR i (by omega)) hb
      refine j_aload_n C dX2_choose_25 0 rfl ?_
      refine j_calli (ci := 1) (n := 0) C (y_greatest (kl k) (kD k) hmc1 hmc hEb) q247 q249 qs21 q24 q250 (by decide +kernel) rfl rfl (by decide) rfl rfl (Nat.le_of_ble_eq_true rfl) dX2_choose_26 (fun w u hw => ?_)
      obtain ⟨rfl, hw⟩ := hw
      have hwb : 0 ≤ w ∧ w ≤ 600 := by
        obtain ⟨-, m0, h2, h3⟩ := hw
        rw [← h3]
        exact hEb m0 h2
      have hw' : IsMax mc (fun m => ld R (ef Hd L) (dg mc (ef Hd L) N) m 8) w := by
        obtain ⟨h1, m0, h2, h3⟩ := hw
        exact ⟨fun m hm => by show ld _ _ _ m 8 ≤ w; rw [← hE m hm]; exact h1 m hm, m0, h2, by show ld _ _ _ m0 8 = w; rw [← hE m0 h2]; exact h3⟩
      refine j_istore (lv' := [(0, .ref (a 0)), (1, .int (zI ((b : Nat) : Int))), (2, .int (zI v)), (3, .int (zI ((all : Nat) : Int))), (4, .int (zI ((N : Nat) : Int))), (5, .int (zI w))]) C dX2_choose_29 (by decide) rfl rfl ?_
      refine j_iload C dX2_choose_31 5 rfl ?_
      refine j_iload_n C dX2_choose_33 2 rfl ?_
      refine j_icmp_ge (tgt := 43) C dX2_choose_34 (by decide) (by omega) (by omega) (fun b2 => ?_) (fun b2 => ?_)
      · refine j_iinc (lv' := [(0, .ref (a 0)), (1, .int (zI ((b : Nat) : Int))), (2, .int (zI v)), (3, .int (zI ((all : Nat) : Int))), (4, .int (zI (((N + 1) : Nat) : Int))), (5, .int (zI w))]) C (((N + 1) : Nat) : Int) dX2_choose_43 4 rfl (by omega) (by decide) rfl rfl ?_
        refine j_goto (tgt := 13) C dX2_choose_46 (by decide) ?_
        refine j_sub (lv' := [(0, .ref (a 0)), (1, .int (zI ((b : Nat) : Int))), (2, .int (zI v)), (3, .int (zI ((all : Nat) : Int))), (4, .int (zI (((N + 1) : Nat) : Int)))]) [0, 1, 2, 3, 4] rfl ?_
        exact ih (N + 1) b v G E (by omega) (by omega) (tried_old ht hwb hw' b2)
      · refine j_iload C dX2_choose_37 4 rfl ?_
        refine j_istore_n (lv' := [(0, .ref (a 0)), (1, .int (zI ((N : Nat) : Int))), (2, .int (zI v)), (3, .int (zI ((all : Nat) : Int))), (4, .int (zI ((N : Nat) : Int))), (5, .int (zI w))]) C dX2_choose_39 (by decide) rfl rfl ?_
        refine j_iload C dX2_choose_40 5 rfl ?_
        refine j_istore_n (lv' := [(0, .ref (a 0)), (1, .int (zI ((N : Nat) : Int))), (2, .int (zI w)), (3, .int (zI ((all : Nat) : Int))), (4, .int (zI ((N : Nat) : Int))), (5, .int (zI w))]) C dX2_choose_42 (by decide) rfl rfl ?_
        refine j_iinc (lv' := [(0, .ref (a 0)), (1, .int (zI ((N : Nat) : Int))), (2, .int (zI w)), (3, .int (zI ((all : Nat) : Int))), (4, .int (zI (((N + 1) : Nat) : Int))), (5, .int (zI w))]) C (((N + 1) : Nat) : Int) dX2_choose_43 4 rfl (by omega) (by decide) rfl rfl ?_
        refine j_goto (tgt := 13) C dX2_choose_46 (by decide) ?_
        refine j_sub (lv' := [(0, .ref (a 0)), (1, .int (zI ((N : Nat) : Int))), (2, .int (zI w)), (3, .int (zI ((all : Nat) : Int))), (4, .int (zI (((N + 1) : Nat) : Int)))]) [0, 1, 2, 3, 4] rfl ?_
        exact ih (N + 1) N w G E (by omega) (by omega) (tried_new ht hwb hw' (by omega))
/-- choose(): the least end; given and ends are the chosen plan's -/
theorem y_choose (l : Launch) (D : va_G) (hmc1 : 1 ≤ mc) (hmc : mc ≤ 3) (hR : ∀ i, i < 3 → 0 ≤ R i ∧ R i ≤ 60) (hH : Hok Hd L) : MI l yX2_choose cX2_choose 6 .int (rmd 2) D [(d, .int), (dz, .boolean)] [.ref (a 0)] (yw d dz a mc dl R Hd L G E) (ChQ d dz a mc dl R Hd L) := by
  refine mi_of RX2 rfl (by decide +kernel) (Nat.le_of_ble_eq_true rfl) (fun k hkl hkD C hret => ?_)
  show JJ k 0 0 (yw d dz a mc dl R Hd L G E) 0 [(0, .ref (a 0))] []
  refine j_iconst C dX2_choose_0 ?_
  refine j_istore_n (lv' := [(0, .ref (a 0)), (1, .int (zI 0))]) C dX2_choose_1 (by decide) rfl rfl ?_
  refine j_ldc C 100000 q246 (by decide +kernel) dX2_choose_2 ?_
  refine j_istore_n (lv' := [(0, .ref (a 0)), (1, .int (zI 0)), (2, .int (zI 100000))]) C dX2_choose_4 (by decide) rfl rfl ?_
  refine j_aload_n C dX2_choose_5 0 rfl ?_
  refine j_calli (ci := 1) (n := 0) C (y_plans (kl k) (kD k) hH) q215 q217 qs17 q24 q218 (by decide +kernel) rfl rfl (by decide) rfl rfl (Nat.le_of_ble_eq_true rfl) dX2_choose_6 (fun v u hv => ?_)
  obtain ⟨rfl, rfl⟩ := hv
  refine j_istore_n (lv' := [(0, .ref (a 0)), (1, .int (zI 0)), (2, .int (zI 100000)), (3, .int (zI (((mc ^ cnt (ef Hd L) 8) : Nat) : Int)))]) C dX2_choose_9 (by decide) rfl rfl ?_
  refine j_iconst C dX2_choose_10 ?_
  refine j_istore (lv' := [(0, .ref (a 0)), (1, .int (zI 0)), (2, .int (zI 100000)), (3, .int (zI (((mc ^ cnt (ef Hd L) 8) : Nat) : Int))), (4, .int (zI 0))]) C dX2_choose_11 (by decide) rfl rfl ?_
  exact y_l_choose C hmc1 hmc hR hH _ rfl hret _ 0 0 100000 G E (by omega) (Nat.lt_succ_self _) (Or.inl ⟨rfl, rfl, rfl⟩)
/-- most(): the plans below N are seen, of plan N the machines below p -/
def Seen (mc : Nat) (R ℓ : Nat → Int) (dl : Int) (N p : Nat) (mo : Int) : Prop := (0 ≤ mo ∧ mo ≤ 300) ∧ (1 ≤ mo → Fits mc R (zU ℓ 8 mo) (fun _ => -1) dl) ∧ ∀ M q, (M < N ∨ (M = N ∧ q < p)) → q < mc → (∀ i, i < mc → i ≠ q → ld R ℓ (dg mc ℓ M) i 8 ≤ dl) → dl - ld R ℓ (dg mc ℓ M) q 8 ≤ mo
theorem seen_end {mc : Nat} {R ℓ : Nat → Int} {dl mo : Int} {N : Nat} (hmc1 : 1 ≤ mc) (hl : ∀ j, j < 8 → 0 ≤ ℓ j) (hN : N = mc ^ cnt ℓ 8) (h : Seen mc R ℓ dl N 0 mo) : Rm mc R ℓ dl (if 60 < mo then 60 else mo) := by
    obtain ⟨h1, h2, h3⟩ := h
    have key : ∀ v, 1 ≤ v → Fits mc R (zU ℓ 8 v) (fun _ => -1) dl → v ≤ mo := by
      intro v hv hf
      obtain ⟨g, hg, q, hq, e1, e2⟩ := (fit9_iff hv).mp hf
      have hdg : ∀ i, ld R ℓ (dg mc ℓ (num mc ℓ g 8)) i 8 = ld R ℓ g i 8 := fun i => ld_congr hl (fun j hj hlj => dg_num hmc1 hg hj hlj)
      have := h3 (num mc ℓ g 8) q (Or.inl (by rw [hN]; exact num_lt hg)) hq (fun i hi hne => by rw [hdg]; exact e1 i hi hne)
      rw [hdg] at this
      omega
    refine ⟨by split <;> omega, fun hv => ?_, fun v hv1 hv2 hf => ?_⟩
    · split
      · exact fit9_mono (by omega) (by omega) (h2 (by omega))
      · exact h2 (by split at hv <;> omega)
    · have := key v (by split at hv1 <;> omega) hf
      split at hv1 <;> omega
theorem y_l_most2 {k : JK} (C : jC k cX2_most 6 RX2 [(d, .int), (dz, .boolean)] (rmd 2)) (hdl : 0 ≤ dl ∧ dl ≤ 300) (hmc1 : 1 ≤ mc) (hmc : mc ≤ 3) (hR : ∀ i, i < 3 → 0 ≤ R i ∧ R i ≤ 60) (hH : Hok Hd L) (all N : Nat) (hN : N < all) (hall : all ≤ 6561) (hE : ∀ m, m < mc → E m = ld R (ef Hd L) (dg mc (ef Hd L) N) m 8) (kont : ∀ mo, Seen mc R (ef Hd L) dl (N + 1) 0 mo → JJ k 0 0 (yw d dz a mc dl R Hd L G E) 54 [(0, .ref (a 0)), (1, .int (zI mo)), (2, .int (zI ((all : Nat) : Int))), (3, .int (zI ((N : Nat) : Int)))] []) : ∀ (n p : Nat) (mo : Int), p ≤ mc → mc - p < n → Seen mc R (ef Hd L) dl N p mo → JJ k 0 0 (yw d dz a mc dl R Hd L G E) 22 [(0, .ref (a 0)), (1, .int (zI mo)), (2, .int (zI ((all : Nat) : Int))), (3, .int (zI ((N : Nat) : Int))), (4, .int (zI ((p : Nat) : Int)))] [] := by
  have hb := ef_bd hH
  have hEb : ∀ i, i < mc → 0 ≤ E i ∧ E i ≤ 600 := fun i hi => by rw [hE i hi]; exact ld_bd (hR i (by omega)) hb
  intro n
  induction n with
  | zero => intro p mo h1 h2; omega
  | succ n ih =>
    intro p mo hp hn hs
    have hmb := hs.1
    refine j_iload C dX2_most_22 4 rfl ?_
    refine j_aload_n C dX2_most_24 0 rfl ?_
    refine j_get (ci := 1) (v := .int (zI ((mc : Nat) : Int))) C in_X2 0 rfl rfl 0 (by decide) q180 rfl rfl dX2_most_25 ?_
    refine j_icmp_ge (tgt := 54) C dX2_most_28 (by decide) (by omega) (by omega) (fun b1 => ?_) (fun b1 => ?_)
    · refine j_sub (lv' := [(0, .ref (a 0)), (1, .int (zI mo)), (2, .int (zI ((all : Nat) : Int))), (3, .int (zI ((N : Nat) : Int)))]) [0, 1, 2, 3] rfl ?_
      exact kont mo ⟨hs.1, hs.2.1, fun M q hMq hq => hs.2.2 M q (by omega) hq⟩
    · refine j_aload_n C dX2_most_31 0 rfl ?_
      refine j_iload C dX2_most_32 4 rfl ?_
      refine j_calli (ci := 1) (n := 1) C (y_left (kl k) (kD k) p (by omega) hdl hmc hEb) q226 q228 qs19 q24 q229 (by decide +kernel) rfl rfl (by decide) rfl rfl (Nat.le_of_ble_eq_true rfl) dX2_most_34 (fun v u hv => ?_)
      obtain ⟨rfl, hv⟩ := hv
      have hEp := hEb p (by omega)
      have hvb : -600 ≤ v ∧ v ≤ 300 := by rcases hv with ⟨h, -⟩ | ⟨h, -⟩ <;> omega
      refine j_istore (lv' := [(0, .ref (a 0)), (1, .int (zI mo)), (2, .int (zI ((all : Nat) : Int))), (3, .int (zI ((N : Nat) : Int))), (4, .int (zI ((p : Nat) : Int))), (5, .int (zI v))]) C dX2_most_37 (by decide) rfl rfl ?_
      refine j_iload C dX2_most_39 5 rfl ?_
      refine j_iload_n C dX2_most_41 1 rfl ?_
      refine j_icmp_le (tgt := 48) C dX2_most_42 (by decide) (by omega) (by omega) (fun b2 => ?_) (fun b2 => ?_)
      · refine j_iinc (lv' := [(0, .ref (a 0)), (1, .int (zI mo)), (2, .int (zI ((all : Nat) : Int))), (3, .int (zI ((N : Nat) : Int))), (4, .int (zI (((p + 1) : Nat) : Int))), (5, .int (zI v))]) C (((p + 1) : Nat) : Int) dX2_most_48 4 rfl (by omega) (by decide) rfl rfl ?_
        refine j_goto (tgt := 22) C dX2_most_51 (by decide) ?_
        refine j_sub (lv' := [(0, .ref (a 0)), (1, .int (zI mo)), (2, .int (zI ((all : Nat) : Int))), (3, .int (zI ((N : Nat) : Int))), (4, .int (zI (((p + 1) : Nat) : Int)))]) [0, 1, 2, 3, 4] rfl ?_
        refine ih (p + 1) mo (by omega) (by omega) ⟨hs.1, hs.2.1, fun M q hMq hq hoth => ?_⟩
        by_cases e : M = N ∧ q = p
        · obtain ⟨rfl, rfl⟩ := e
          rcases hv with ⟨h, -⟩ | ⟨-, h⟩
          · rw [← hE q hq]; omega
          · exact absurd (fun i hi hne => by rw [hE i hi]; exact hoth i hi hne) h
        · exact hs.2.2 M q (by omega) hq hoth
      · have hv' : v = dl - E p ∧ ∀ q, q < mc → q ≠ p → E q ≤ dl := by
          rcases hv with h | ⟨h, -⟩
          · exact h
          · omega
        obtain ⟨hve, hvo⟩ := hv'
        refine j_iload C dX2_most_45 5 rfl ?_
        refine j_istore_n (lv' := [(0, .ref (a 0)), (1, .int (zI v)), (2, .int (zI ((all : Nat) : Int))), (3, .int (zI ((N : Nat) : Int))), (4, .int (zI ((p : Nat) : Int))), (5, .int (zI v))]) C dX2_most_47 (by decide) rfl rfl ?_
        refine j_iinc (lv' := [(0, .ref (a 0)), (1, .int (zI v)), (2, .int (zI ((all : Nat) : Int))), (3, .int (zI ((N : Nat) : Int))), (4, .int (zI (((p + 1) : Nat) : Int))), (5, .int (zI v))]) C (((p + 1) : Nat) : Int) dX2_most_48 4 rfl (by omega) (by decide) rfl rfl ?_
        refine j_goto (tgt := 22) C dX2_most_51 (by decide) ?_
        refine j_sub (lv' := [(0, .ref (a 0)), (1, .int (zI v)), (2, .int (zI ((all : Nat) : Int))), (3, .int (zI ((N : Nat) : Int))), (4, .int (zI (((p + 1) : Nat) : Int)))]) [0, 1, 2, 3, 4] rfl ?_
        refine ih (p + 1) v (by omega) (by omega) ⟨by omega, fun h1 => ?_, fun M q hMq hq hoth => ?_⟩
        · refine (fit9_iff h1).mpr ⟨dg mc (ef Hd L) N, dg_val hmc1, p, by omega, fun q hq hne => by rw [← hE q hq]; exact hvo q hq hne, ?_⟩
          rw [← hE p (by omega)]
          omega
        · by_cases e : M = N ∧ q = p
          · obtain ⟨rfl, rfl⟩ := e
            rw [← hE q hq]; omega
          · have := hs.2.2 M q (by omega) hq hoth
            omega
theorem y_l_most1 {k : JK} (C : jC k cX2_most 6 RX2 [(d, .int), (dz, .boolean)] (rmd 2)) (hdl : 0 ≤ dl ∧ dl ≤ 300) (hmc1 : 1 ≤ mc) (hmc : mc ≤ 3) (hR : ∀ i, i < 3 → 0 ≤ R i ∧ R i ≤ 60) (hH : Hok Hd L) (all : Nat) (hall : all = mc ^ cnt (ef Hd L) 8) (hret : jI k cX2_most .int (fun v u => YS d dz a mc dl R Hd L u ∧ Rm mc R (ef Hd L) dl v)) : ∀ (n N : Nat) (mo : Int) (G E : Nat → Int), N ≤ all → all - N < n → Seen mc R (ef Hd L) dl N 0 mo → JJ k 0 0 (yw d dz a mc dl R Hd L G E) 9 [(0, .ref (a 0)), (1, .int (zI mo)), (2, .int (zI ((all : Nat) : Int))), (3, .int (zI ((N : Nat) : Int)))] [] := by
  have hab := pw_le (c := cnt (ef Hd L) 8) hmc1 hmc (cnt_le _ 8)
  have hb := ef_bd hH
  intro n
  induction n with
  | zero => intro N mo G E h1 h2; omega
  | succ n ih =>
    intro N mo G E hN hn hs
    have hmb := hs.1
    refine j_iload_n C dX2_most_9 3 rfl ?_
    refine j_iload_n C dX2_most_10 2 rfl ?_
    refine j_icmp_ge (tgt := 60) C dX2_most_11 (by decide) (by omega) (by omega) (fun b1 => ?_) (fun b1 => ?_)
    · have hrm := seen_end hmc1 (fun j _ => (hb j).1) (show N = mc ^ cnt (ef Hd L) 8 by omega) hs
      refine j_iload_n C dX2_most_60 1 rfl ?_
      refine j_bipush C dX2_most_61 (by decide +kernel) ?_
      refine j_icmp_le (tgt := 71) C dX2_most_63 (by decide) (by omega) (by omega) (fun b2 => ?_) (fun b2 => ?_)
      · refine j_iload_n C dX2_most_71 1 rfl ?_
        rw [if_neg (by omega)] at hrm
        exact j_ret hret dX2_most_72 rfl (⟨⟨G, E, rfl⟩, hrm⟩)
      · refine j_bipush C dX2_most_66 (by decide +kernel) ?_
        refine j_goto (tgt := 72) C dX2_most_68 (by decide) ?_
        rw [if_pos (by omega)] at hrm
        exact j_ret hret dX2_most_72 rfl (⟨⟨G, E, rfl⟩, hrm⟩)
    · refine j_aload_n C dX2_most_14 0 rfl ?_
      refine j_iload_n C dX2_most_15 3 rfl ?_
      refine j_callv (ci := 1) (n := 1) C (y_lay (kl k) (kD k) hmc1 hmc hH N (by omega)) q222 q224 qs18 q24 q225 (by decide +kernel) rfl rfl (by decide) rfl rfl (Nat.le_of_ble_eq_true rfl) dX2_most_16 (fun u hu => ?_)
      obtain ⟨G, E, rfl, hG, hE⟩ := hu
      refine j_iconst C dX2_most_19 ?_
      refine j_istore (lv' := [(0, .ref (a 0)), (1, .int (zI mo)), (2, .int (zI ((all : Nat) : Int))), (3, .int (zI ((N : Nat) : Int))), (4, .int (zI 0))]) C dX2_most_20 (by decide) rfl rfl ?_
      refine y_l_most2 C hdl hmc1 hmc hR hH all N (by omega) (by omega) hE (fun mo hmo => ?_) 4 0 mo (by omega) (by omega) hs
      refine j_iinc (lv' := [(0, .ref (a 0)), (1, .int (zI mo)), (2, .int (zI ((all : Nat) : Int))), (3, .int (zI (((N + 1) : Nat) : Int)))]) C (((N + 1) : Nat) : Int) dX2_most_54 3 rfl (by omega) (by decide) rfl rfl ?_
      refine j_goto (tgt := 9) C dX2_most_57 (by decide) ?_
      exact ih (N + 1) mo G E (by omega) (by omega) hmo
/-- most(): the room for one more -/
theorem y_most (l : Launch) (D : va_G) (hdl : 0 ≤ dl ∧ dl ≤ 300) (hmc1 : 1 ≤ mc) (hmc : mc ≤ 3) (hR : ∀ i, i < 3 → 0 ≤ R i ∧ R i ≤ 60) (hH : Hok Hd L) : MI l yX2_most cX2_most 6 .int (rmd 2) D [(d, .int), (dz, .boolean)] [.ref (a 0)] (yw d dz a mc dl R Hd L G E) (fun v u => YS d dz a mc dl R Hd L u ∧ Rm mc R (ef Hd L) dl v) := by
  refine mi_of RX2 rfl (by decide +kernel) (Nat.le_of_ble_eq_true rfl) (fun k hkl hkD C hret => ?_)
  show JJ k 0 0 (yw d dz a mc dl R Hd L G E) 0 [(0, .ref (a 0))] []
  refine j_iconst C dX2_most_0 ?_
  refine j_istore_n (lv' := [(0, .ref (a 0)), (1, .int (zI 0))]) C dX2_most_1 (by decide) rfl rfl ?_
  refine j_aload_n C dX2_most_2 0 rfl ?_
  refine j_calli (ci := 1) (n := 0) C (y_plans (kl k) (kD k) hH) q215 q217 qs17 q24 q218 (by decide +kernel) rfl rfl (by decide) rfl rfl (Nat.le_of_ble_eq_true rfl) dX2_most_3 (fun v u hv => ?_)
  obtain ⟨rfl, rfl⟩ := hv
  refine j_istore_n (lv' := [(0, .ref (a 0)), (1, .int (zI 0)), (2, .int (zI (((mc ^ cnt (ef Hd L) 8) : Nat) : Int)))]) C dX2_most_6 (by decide) rfl rfl ?_
  refine j_iconst C dX2_most_7 ?_
  refine j_istore_n (lv' := [(0, .ref (a 0)), (1, .int (zI 0)), (2, .int (zI (((mc ^ cnt (ef Hd L) 8) : Nat) : Int))), (3, .int (zI 0))]) C dX2_most_8 (by decide) rfl rfl ?_
  exact y_l_most1 C hdl hmc1 hmc hR hH _ rfl hret _ 0 0 G E (by omega) (Nat.lt_succ_self _) ⟨by omega, fun h => by omega, fun M q h => by omega⟩
/-- room(): the room for one more -/
theorem y_room (l : Launch) (D : va_G) (hdl : 0 ≤ dl ∧ dl ≤ 300) (hmc1 : 1 ≤ mc) (hmc : mc ≤ 3) (hR : ∀ i, i < 3 → 0 ≤ R i ∧ R i ≤ 60) (hH : Hok Hd L) : MI l yX2_room cX2_room 1 .int (rmd 3) D [(d, .int), (dz, .boolean)] [.ref (a 0)] (yw d dz a mc dl R Hd L G E) (fun v u => YS d dz a mc dl R Hd L u ∧ Rm mc R (ef Hd L) dl v) := by
  refine mi_of RX2 rfl (by decide +kernel) (Nat.le_of_ble_eq_true rfl) (fun k hkl hkD C hret => ?_)
  show JJ k 0 0 (yw d dz a mc dl R Hd L G E) 0 [(0, .ref (a 0))] []
  refine j_aload_n C dX2_room_0 0 rfl ?_
  refine j_calli (ci := 1) (n := 0) C (y_most (kl k) (kD k) hdl hmc1 hmc hR hH) q211 q213 qs16 q24 q214 (by decide +kernel) rfl rfl (by decide) rfl rfl (Nat.le_of_ble_eq_true rfl) dX2_room_1 (fun v u hv => ?_)
  exact j_ret hret dX2_room_4 rfl (hv)
/-- end(): the least end -/
theorem y_end (l : Launch) (D : va_G) (hmc1 : 1 ≤ mc) (hmc : mc ≤ 3) (hR : ∀ i, i < 3 → 0 ≤ R i ∧ R i ≤ 60) (hH : Hok Hd L) : MI l yX2_end cX2_end 1 .int (rmd 3) D [(d, .int), (dz, .boolean)] [.ref (a 0)] (yw d dz a mc dl R Hd L G E) (ChQ d dz a mc dl R Hd L) := by
  refine mi_of RX2 rfl (by decide +kernel) (Nat.le_of_ble_eq_true rfl) (fun k hkl hkD C hret => ?_)
  show JJ k 0 0 (yw d dz a mc dl R Hd L G E) 0 [(0, .ref (a 0))] []
  refine j_aload_n C dX2_end_0 0 rfl ?_
  refine j_calli (ci := 1) (n := 0) C (y_choose (kl k) (kD k) hmc1 hmc hR hH) q242 q244 qs20 q24 q245 (by decide +kernel) rfl rfl (by decide) rfl rfl (Nat.le_of_ble_eq_true rfl) dX2_end_1 (fun v u hv => ?_)
  exact j_ret hret dX2_end_4 rfl (hv)
/-- machineOf(job) -/
theorem y_machineOf (l : Launch) (D : va_G) (j : Int) (hj : -2147483648 ≤ j ∧ j < 2147483648) (hmc1 : 1 ≤ mc) (hmc : mc ≤ 3) (hR : ∀ i, i < 3 → 0 ≤ R i ∧ R i ≤ 60) (hH : Hok Hd L) : MI l yX2_machineOf cX2_machineOf 2 .int (rmd 3) D [(d, .int), (dz, .boolean)] [.ref (a 0), .int (zI j)] (yw d dz a mc dl R Hd L G E) (fun v u => YS d dz a mc dl R Hd L u ∧ ((¬ (∃ n : Nat, n < 8 ∧ j = n ∧ Hd n = 1) ∧ v = -2) ∨ ∃ n : Nat, n < 8 ∧ j = n ∧ Hd n = 1 ∧ ∃ (b : Int) (P : Nat → Int), Chosen mc R (ef Hd L) b P ∧ v = P n)) := by
  refine mi_of RX2 rfl (by decide +kernel) (Nat.le_of_ble_eq_true rfl) (fun k hkl hkD C hret => ?_)
  show JJ k 0 0 (yw d dz a mc dl R Hd L G E) 0 [(0, .ref (a 0)), (1, .int (zI j))] []
  refine j_iload_n C dX2_machineOf_0 1 rfl ?_
  refine j_if_lt (tgt := 19) C dX2_machineOf_1 (by decide) (by omega) (fun b1 => ?_) (fun b1 => ?_)
  · refine j_bipush C dX2_machineOf_19 (by decide +kernel) ?_
    exact j_ret hret dX2_machineOf_21 rfl (⟨⟨G, E, rfl⟩, Or.inl ⟨fun ⟨n, h1, h2, h3⟩ => by omega, rfl⟩⟩)
  · refine j_iload_n C dX2_machineOf_4 1 rfl ?_
    refine j_bipush C dX2_machineOf_5 (by decide +kernel) ?_
    refine j_icmp_gt (tgt := 19) C dX2_machineOf_7 (by decide) (by omega) (by omega) (fun b2 => ?_) (fun b2 => ?_)
    · refine j_bipush C dX2_machineOf_19 (by decide +kernel) ?_
      exact j_ret hret dX2_machineOf_21 rfl (⟨⟨G, E, rfl⟩, Or.inl ⟨fun ⟨n, h1, h2, h3⟩ => by omega, rfl⟩⟩)
    · obtain ⟨n, rfl⟩ : ∃ n : Nat, j = n := ⟨j.toNat, by omega⟩
      have hHn := (hH n (by omega)).1
      refine j_aload_n C dX2_machineOf_10 0 rfl ?_
      refine j_get (ci := 1) (v := .ref (a 2)) C in_X2 0 rfl rfl 3 (by decide) q183 rfl rfl dX2_machineOf_11 ?_
      refine j_iload_n C dX2_machineOf_14 1 rfl ?_
      refine j_zald (f := Hd) (v := (Hd n)) C 2 rfl rfl n (by omega) (by omega) (by decide) rfl dX2_machineOf_15 ?_
      refine j_if_ne (tgt := 22) C dX2_machineOf_16 (by decide) (by omega) (fun b3 => ?_) (fun b3 => ?_)
      · refine j_aload_n C dX2_machineOf_22 0 rfl ?_
        refine j_calli (ci := 1) (n := 0) C (y_choose (kl k) (kD k) hmc1 hmc hR hH) q242 q244 qs20 q24 q245 (by decide +kernel) rfl rfl (by decide) rfl rfl (Nat.le_of_ble_eq_true rfl) dX2_machineOf_23 (fun v u hv => ?_)
        obtain ⟨G, E, rfl, hch, hE⟩ := hv
        refine j_pop C dX2_machineOf_26 rfl ?_
        refine j_aload_n C dX2_machineOf_27 0 rfl ?_
        refine j_get (ci := 1) (v := .ref (a 4)) C in_X2 0 rfl rfl 5 (by decide) q185 rfl rfl dX2_machineOf_28 ?_
        refine j_iload_n C dX2_machineOf_31 1 rfl ?_
        refine j_ald (f := G) (v := (G n)) C 4 rfl rfl n (by omega) (by omega) (by decide) rfl dX2_machineOf_32 ?_
        exact j_ret hret dX2_machineOf_33 rfl (⟨⟨G, E, rfl⟩, Or.inr ⟨n, by omega, rfl, by omega, v, G, hch, rfl⟩⟩)
      · refine j_bipush C dX2_machineOf_19 (by decide +kernel) ?_
        exact j_ret hret dX2_machineOf_21 rfl (⟨⟨G, E, rfl⟩, Or.inl ⟨fun ⟨n', h1, h2, h3⟩ => by rw [show n' = n from by omega] at h3; omega, rfl⟩⟩)
/-- endOf(machine) -/
theorem y_endOf (l : Launch) (D : va_G) (j : Int) (hj : -2147483648 ≤ j ∧ j < 2147483648) (hmc1 : 1 ≤ mc) (hmc : mc ≤ 3) (hR : ∀ i, i < 3 → 0 ≤ R i ∧ R i ≤ 60) (hH : Hok Hd L) : MI l yX2_endOf cX2_endOf 2 .int (rmd 3) D [(d, .int), (dz, .boolean)] [.ref (a 0), .int (zI j)] (yw d dz a mc dl R Hd L G E) (fun v u => YS d dz a mc dl R Hd L u ∧ ((¬ (0 ≤ j ∧ j < mc) ∧ v = -2) ∨ ∃ n : Nat, n < mc ∧ j = n ∧ ∃ (b : Int) (P : Nat → Int), Chosen mc R (ef Hd L) b P ∧ v = ld R (ef Hd L) P n 8)) := by
  refine mi_of RX2 rfl (by decide +kernel) (Nat.le_of_ble_eq_true rfl) (fun k hkl hkD C hret => ?_)
  show JJ k 0 0 (yw d dz a mc dl R Hd L G E) 0 [(0, .ref (a 0)), (1, .int (zI j))] []
  refine j_iload_n C dX2_endOf_0 1 rfl ?_
  refine j_if_lt (tgt := 12) C dX2_endOf_1 (by decide) (by omega) (fun b1 => ?_) (fun b1 => ?_)
  · refine j_bipush C dX2_endOf_12 (by decide +kernel) ?_
    exact j_ret hret dX2_endOf_14 rfl (⟨⟨G, E, rfl⟩, Or.inl ⟨by omega, rfl⟩⟩)
  · refine j_iload_n C dX2_endOf_4 1 rfl ?_
    refine j_aload_n C dX2_endOf_5 0 rfl ?_
    refine j_get (ci := 1) (v := .int (zI ((mc : Nat) : Int))) C in_X2 0 rfl rfl 0 (by decide) q180 rfl rfl dX2_endOf_6 ?_
    refine j_icmp_lt (tgt := 15) C dX2_endOf_9 (by decide) (by omega) (by omega) (fun b2 => ?_) (fun b2 => ?_)
    · obtain ⟨n, rfl⟩ : ∃ n : Nat, j = n := ⟨j.toNat, by omega⟩
      refine j_aload_n C dX2_endOf_15 0 rfl ?_
      refine j_calli (ci := 1) (n := 0) C (y_choose (kl k) (kD k) hmc1 hmc hR hH) q242 q244 qs20 q24 q245 (by decide +kernel) rfl rfl (by decide) rfl rfl (Nat.le_of_ble_eq_true rfl) dX2_endOf_16 (fun v u hv => ?_)
      obtain ⟨G, E, rfl, hch, hE⟩ := hv
      refine j_pop C dX2_endOf_19 rfl ?_
      refine j_aload_n C dX2_endOf_20 0 rfl ?_
      refine j_get (ci := 1) (v := .ref (a 5)) C in_X2 0 rfl rfl 6 (by decide) q186 rfl rfl dX2_endOf_21 ?_
      refine j_iload_n C dX2_endOf_24 1 rfl ?_
      refine j_ald (f := E) (v := (E n)) C 5 rfl rfl n (by omega) (by omega) (by decide) rfl dX2_endOf_25 ?_
      exact j_ret hret dX2_endOf_26 rfl (⟨⟨G, E, rfl⟩, Or.inr ⟨n, by omega, rfl, v, G, hch, hE n (by omega)⟩⟩)
    · refine j_bipush C dX2_endOf_12 (by decide +kernel) ?_
      exact j_ret hret dX2_endOf_14 rfl (⟨⟨G, E, rfl⟩, Or.inl ⟨by omega, rfl⟩⟩)
/-- withdraw(job) -/
theorem y_withdraw (l : Launch) (D : va_G) (j : Int) (hj : -2147483648 ≤ j ∧ j < 2147483648) (hH : Hok Hd L) : MI l yX2_withdraw cX2_withdraw 2 .int (rmd 0) D [(d, .int), (dz, .boolean)] [.ref (a 0), .int (zI j)] (yw d dz a mc dl R Hd L G E) (fun v u => ∃ Hd' : Nat → Int, YS d dz a mc dl R Hd' L u ∧ ((¬ (∃ n : Nat, n < 8 ∧ j = n ∧ Hd n = 1) ∧ v = -2 ∧ Hd' = Hd) ∨ ∃ n : Nat, n < 8 ∧ j = n ∧ Hd n = 1 ∧ v = L n ∧ Hd' = zU Hd n 0)) := by
  refine mi_of RX2 rfl (by decide +kernel) (Nat.le_of_ble_eq_true rfl) (fun k hkl hkD C hret => ?_)
  show JJ k 0 0 (yw d dz a mc dl R Hd L G E) 0 [(0, .ref (a 0)), (1, .int (zI j))] []
  refine j_iload_n C dX2_withdraw_0 1 rfl ?_
  refine j_if_lt (tgt := 19) C dX2_withdraw_1 (by decide) (by omega) (fun b1 => ?_) (fun b1 => ?_)
  · refine j_bipush C dX2_withdraw_19 (by decide +kernel) ?_
    exact j_ret hret dX2_withdraw_21 rfl (⟨Hd, ⟨G, E, rfl⟩, Or.inl ⟨fun ⟨n, h1, h2, h3⟩ => by omega, rfl, rfl⟩⟩)
  · refine j_iload_n C dX2_withdraw_4 1 rfl ?_
    refine j_bipush C dX2_withdraw_5 (by decide +kernel) ?_
    refine j_icmp_gt (tgt := 19) C dX2_withdraw_7 (by decide) (by omega) (by omega) (fun b2 => ?_) (fun b2 => ?_)
    · refine j_bipush C dX2_withdraw_19 (by decide +kernel) ?_
      exact j_ret hret dX2_withdraw_21 rfl (⟨Hd, ⟨G, E, rfl⟩, Or.inl ⟨fun ⟨n, h1, h2, h3⟩ => by omega, rfl, rfl⟩⟩)
    · obtain ⟨n, rfl⟩ : ∃ n : Nat, j = n := ⟨j.toNat, by omega⟩
      have hHn := (hH n (by omega)).1
      refine j_aload_n C dX2_withdraw_10 0 rfl ?_
      refine j_get (ci := 1) (v := .ref (a 2)) C in_X2 0 rfl rfl 3 (by decide) q183 rfl rfl dX2_withdraw_11 ?_
      refine j_iload_n C dX2_withdraw_14 1 rfl ?_
      refine j_zald (f := Hd) (v := (Hd n)) C 2 rfl rfl n (by omega) (by omega) (by decide) rfl dX2_withdraw_15 ?_
      refine j_if_ne (tgt := 22) C dX2_withdraw_16 (by decide) (by omega) (fun b3 => ?_) (fun b3 => ?_)
      · refine j_aload_n C dX2_withdraw_22 0 rfl ?_
        refine j_get (ci := 1) (v := .ref (a 2)) C in_X2 0 rfl rfl 3 (by decide) q183 rfl rfl dX2_withdraw_23 ?_
        refine j_iload_n C dX2_withdraw_26 1 rfl ?_
        refine j_iconst C dX2_withdraw_27 ?_
        refine j_zast (f := Hd) (ws' := (yw d dz a mc dl R (zU Hd n 0) L G E)) C 2 rfl rfl n (by omega) (by omega) (by decide) vn_0 dX2_withdraw_28 rfl ?_
        refine j_aload_n C dX2_withdraw_29 0 rfl ?_
        refine j_get (ci := 1) (v := .ref (a 3)) C in_X2 0 rfl rfl 4 (by decide) q184 rfl rfl dX2_withdraw_30 ?_
        refine j_iload_n C dX2_withdraw_33 1 rfl ?_
        refine j_ald (f := L) (v := (L n)) C 3 rfl rfl n (by omega) (by omega) (by decide) rfl dX2_withdraw_34 ?_
        exact j_ret hret dX2_withdraw_35 rfl (⟨_, ⟨G, E, rfl⟩, Or.inr ⟨n, by omega, rfl, by omega, rfl, rfl⟩⟩)
      · refine j_bipush C dX2_withdraw_19 (by decide +kernel) ?_
        exact j_ret hret dX2_withdraw_21 rfl (⟨Hd, ⟨G, E, rfl⟩, Or.inl ⟨fun ⟨n', h1, h2, h3⟩ => by rw [show n' = n from by omega] at h3; omega, rfl, rfl⟩⟩)
/-- ready(machine, time) -/
theorem y_ready (l : Launch) (D : va_G) (j t : Int) (hj : -2147483648 ≤ j ∧ j < 2147483648) (ht : -2147483648 ≤ t ∧ t < 2147483648) (hmc : mc ≤ 3) : MI l yX2_ready cX2_ready 4 .int (rmd 0) D [(d, .int), (dz, .boolean)] [.ref (a 0), .int (zI j), .int (zI t)] (yw d dz a mc dl R Hd L G E) (fun v u => ∃ R' : Nat → Int, YS d dz a mc dl R' Hd L u ∧ ((¬ (0 ≤ j ∧ j < mc) ∧ v = -2 ∧ R' = R) ∨ ∃ n : Nat, n < mc ∧ j = n ∧ v = R n ∧ R' = zU R n (clamp60 t))) := by
  refine mi_of RX2 rfl (by decide +kernel) (Nat.le_of_ble_eq_true rfl) (fun k hkl hkD C hret => ?_)
  show JJ k 0 0 (yw d dz a mc dl R Hd L G E) 0 [(0, .ref (a 0)), (1, .int (zI j)), (2, .int (zI t))] []
  refine j_iload_n C dX2_ready_0 1 rfl ?_
  refine j_if_lt (tgt := 12) C dX2_ready_1 (by decide) (by omega) (fun b1 => ?_) (fun b1 => ?_)
  · refine j_bipush C dX2_ready_12 (by decide +kernel) ?_
    exact j_ret hret dX2_ready_14 rfl (⟨R, ⟨G, E, rfl⟩, Or.inl ⟨by omega, rfl, rfl⟩⟩)
  · refine j_iload_n C dX2_ready_4 1 rfl ?_
    refine j_aload_n C dX2_ready_5 0 rfl ?_
    refine j_get (ci := 1) (v := .int (zI ((mc : Nat) : Int))) C in_X2 0 rfl rfl 0 (by decide) q180 rfl rfl dX2_ready_6 ?_
    refine j_icmp_lt (tgt := 15) C dX2_ready_9 (by decide) (by omega) (by omega) (fun b2 => ?_) (fun b2 => ?_)
    · obtain ⟨n, rfl⟩ : ∃ n : Nat, j = n := ⟨j.toNat, by omega⟩
      refine j_aload_n C dX2_ready_15 0 rfl ?_
      refine j_get (ci := 1) (v := .ref (a 1)) C in_X2 0 rfl rfl 2 (by decide) q182 rfl rfl dX2_ready_16 ?_
      refine j_iload_n C dX2_ready_19 1 rfl ?_
      refine j_ald (f := R) (v := (R n)) C 1 rfl rfl n (by omega) (by omega) (by decide) rfl dX2_ready_20 ?_
      refine j_istore_n (lv' := [(0, .ref (a 0)), (1, .int (zI ((n : Nat) : Int))), (2, .int (zI t)), (3, .int (zI (R n)))]) C dX2_ready_21 (by decide) rfl rfl ?_
      refine j_aload_n C dX2_ready_22 0 rfl ?_
      refine j_get (ci := 1) (v := .ref (a 1)) C in_X2 0 rfl rfl 2 (by decide) q182 rfl rfl dX2_ready_23 ?_
      refine j_iload_n C dX2_ready_26 1 rfl ?_
      refine j_iload_n C dX2_ready_27 2 rfl ?_
      refine j_if_ge (tgt := 35) C dX2_ready_28 (by decide) (by omega) (fun b3 => ?_) (fun b3 => ?_)
      · refine j_iload_n C dX2_ready_35 2 rfl ?_
        refine j_bipush C dX2_ready_36 (by decide +kernel) ?_
        refine j_icmp_le (tgt := 46) C dX2_ready_38 (by decide) (by omega) (by omega) (fun b4 => ?_) (fun b4 => ?_)
        · refine j_iload_n C dX2_ready_46 2 rfl ?_
          refine j_ast (f := R) (ws' := (yw d dz a mc dl (zU R n t) Hd L G E)) C 1 rfl rfl n (by omega) (by omega) (by decide) dX2_ready_47 rfl ?_
          refine j_iload_n C dX2_ready_48 3 rfl ?_
          exact j_ret hret dX2_ready_49 rfl (⟨_, ⟨G, E, rfl⟩, Or.inr ⟨n, by omega, rfl, rfl, by unfold clamp60; rw [if_neg (by omega), if_neg (by omega)]⟩⟩)
        · refine j_bipush C dX2_ready_41 (by decide +kernel) ?_
          refine j_goto (tgt := 47) C dX2_ready_43 (by decide) ?_
          refine j_ast (f := R) (ws' := (yw d dz a mc dl (zU R n 60) Hd L G E)) C 1 rfl rfl n (by omega) (by omega) (by decide) dX2_ready_47 rfl ?_
          refine j_iload_n C dX2_ready_48 3 rfl ?_
          exact j_ret hret dX2_ready_49 rfl (⟨_, ⟨G, E, rfl⟩, Or.inr ⟨n, by omega, rfl, rfl, by unfold clamp60; rw [if_neg (by omega), if_pos (by omega)]⟩⟩)
      · refine j_iconst C dX2_ready_31 ?_
        refine j_goto (tgt := 47) C dX2_ready_32 (by decide) ?_
        refine j_ast (f := R) (ws' := (yw d dz a mc dl (zU R n 0) Hd L G E)) C 1 rfl rfl n (by omega) (by omega) (by decide) dX2_ready_47 rfl ?_
        refine j_iload_n C dX2_ready_48 3 rfl ?_
        exact j_ret hret dX2_ready_49 rfl (⟨_, ⟨G, E, rfl⟩, Or.inr ⟨n, by omega, rfl, rfl, by unfold clamp60; rw [if_pos (by omega)]⟩⟩)
    · refine j_bipush C dX2_ready_12 (by decide +kernel) ?_
      exact j_ret hret dX2_ready_14 rfl (⟨R, ⟨G, E, rfl⟩, Or.inl ⟨by omega, rfl, rfl⟩⟩)
/-- what offer answers and does -/
def YOfferQ (mc : Nat) (dl : Int) (R Hd L : Nat → Int) (w v : Int) (Hd' L' : Nat → Int) : Prop :=
  (¬ (1 ≤ w ∧ w ≤ 60) ∧ v = -2 ∧ Hd' = Hd ∧ L' = L) ∨ ((1 ≤ w ∧ w ≤ 60) ∧ (∀ i : Nat, i < 8 → Hd i = 1) ∧ v = -3 ∧ Hd' = Hd ∧ L' = L) ∨
  ((1 ≤ w ∧ w ≤ 60) ∧ (¬ ∀ i : Nat, i < 8 → Hd i = 1) ∧ ¬ Fits mc R (zU (ef Hd L) 8 w) (fun _ => -1) dl ∧ v = -1 ∧ Hd' = Hd ∧ L' = L) ∨
  ((1 ≤ w ∧ w ≤ 60) ∧ Fits mc R (zU (ef Hd L) 8 w) (fun _ => -1) dl ∧ ∃ n : Nat, n < 8 ∧ Hd n = 0 ∧ (∀ i : Nat, i < n → Hd i = 1) ∧ v = n ∧ Hd' = zU Hd n 1 ∧ L' = zU L n w)
theorem y_l_offer {k : JK} {rm : Room} (C : jC k cX2_offer 3 RX2 [(d, .int), (dz, .boolean)] rm) (hH : Hok Hd L) (w : Int) (hw : 1 ≤ w ∧ w ≤ 60) (hf : Fits mc R (zU (ef Hd L) 8 w) (fun _ => -1) dl) (hna : ¬ ∀ i : Nat, i < 8 → Hd i = 1) (hret : jI k cX2_offer .int (fun v u => ∃ Hd' L' : Nat → Int, YS d dz a mc dl R Hd' L' u ∧ YOfferQ mc dl R Hd L w v Hd' L')) : ∀ (n j : Nat), j ≤ 8 → 8 - j < n → (∀ i : Nat, i < j → Hd i = 1) → JJ k 0 0 (yw d dz a mc dl R Hd L G E) 38 [(0, .ref (a 0)), (1, .int (zI w)), (2, .int (zI ((j : Nat) : Int)))] [] := by
  intro n
  induction n with
  | zero => intro j h1 h2; omega
  | succ n ih =>
    intro j hj hn hi
    refine j_iload_n C dX2_offer_38 2 rfl ?_
    refine j_bipush C dX2_offer_39 (by decide +kernel) ?_
    refine j_icmp_ge (tgt := 75) C dX2_offer_41 (by decide) (by omega) (by omega) (fun b1 => ?_) (fun b1 => ?_)
    · exact absurd (fun i h => hi i (by omega)) hna
    · have hHj := (hH j (by omega)).1
      refine j_aload_n C dX2_offer_44 0 rfl ?_
      refine j_get (ci := 1) (v := .ref (a 2)) C in_X2 0 rfl rfl 3 (by decide) q183 rfl rfl dX2_offer_45 ?_
      refine j_iload_n C dX2_offer_48 2 rfl ?_
      refine j_zald (f := Hd) (v := (Hd j)) C 2 rfl rfl j (by omega) (by omega) (by decide) rfl dX2_offer_49 ?_
      refine j_if_ne (tgt := 69) C dX2_offer_50 (by decide) (by omega) (fun b2 => ?_) (fun b2 => ?_)
      · refine j_iinc (lv' := [(0, .ref (a 0)), (1, .int (zI w)), (2, .int (zI (((j + 1) : Nat) : Int)))]) C (((j + 1) : Nat) : Int) dX2_offer_69 2 rfl (by omega) (by decide) rfl rfl ?_
        refine j_goto (tgt := 38) C dX2_offer_72 (by decide) ?_
        exact ih (j + 1) (by omega) (by omega) (fun i h => by
          by_cases e : i = j
          · subst e; omega
          · exact hi i (by omega))
      · refine j_aload_n C dX2_offer_53 0 rfl ?_
        refine j_get (ci := 1) (v := .ref (a 2)) C in_X2 0 rfl rfl 3 (by decide) q183 rfl rfl dX2_offer_54 ?_
        refine j_iload_n C dX2_offer_57 2 rfl ?_
        refine j_iconst C dX2_offer_58 ?_
        refine j_zast (f := Hd) (ws' := (yw d dz a mc dl R (zU Hd j 1) L G E)) C 2 rfl rfl j (by omega) (by omega) (by decide) vn_1 dX2_offer_59 rfl ?_
        refine j_aload_n C dX2_offer_60 0 rfl ?_
        refine j_get (ci := 1) (v := .ref (a 3)) C in_X2 0 rfl rfl 4 (by decide) q184 rfl rfl dX2_offer_61 ?_
        refine j_iload_n C dX2_offer_64 2 rfl ?_
        refine j_iload_n C dX2_offer_65 1 rfl ?_
        refine j_ast (f := L) (ws' := (yw d dz a mc dl R (zU Hd j 1) (zU L j w) G E)) C 3 rfl rfl j (by omega) (by omega) (by decide) dX2_offer_66 rfl ?_
        refine j_iload_n C dX2_offer_67 2 rfl ?_
        exact j_ret hret dX2_offer_68 rfl (⟨_, _, ⟨G, E, rfl⟩, Or.inr (Or.inr (Or.inr ⟨hw, hf, j, by omega, b2, hi, rfl, rfl, rfl⟩))⟩)
theorem y_offer (l : Launch) (D : va_G) (w : Int) (hw : -2147483648 ≤ w ∧ w < 2147483648) (hdl : 0 ≤ dl ∧ dl ≤ 300) (hmc1 : 1 ≤ mc) (hmc : mc ≤ 3) (hR : ∀ i, i < 3 → 0 ≤ R i ∧ R i ≤ 60) (hH : Hok Hd L) : MI l yX2_offer cX2_offer 3 .int (rmd 3) D [(d, .int), (dz, .boolean)] [.ref (a 0), .int (zI w)] (yw d dz a mc dl R Hd L G E) (fun v u => ∃ Hd' L' : Nat → Int, YS d dz a mc dl R Hd' L' u ∧ YOfferQ mc dl R Hd L w v Hd' L') := by
  refine mi_of RX2 rfl (by decide +kernel) (Nat.le_of_ble_eq_true rfl) (fun k hkl hkD C hret => ?_)
  show JJ k 0 0 (yw d dz a mc dl R Hd L G E) 0 [(0, .ref (a 0)), (1, .int (zI w))] []
  refine j_iload_n C dX2_offer_0 1 rfl ?_
  refine j_iconst C dX2_offer_1 ?_
  refine j_icmp_lt (tgt := 11) C dX2_offer_2 (by decide) (by omega) (by omega) (fun b1 => ?_) (fun b1 => ?_)
  · refine j_bipush C dX2_offer_11 (by decide +kernel) ?_
    exact j_ret hret dX2_offer_13 rfl (⟨Hd, L, ⟨G, E, rfl⟩, Or.inl ⟨by omega, rfl, rfl, rfl⟩⟩)
  · refine j_iload_n C dX2_offer_5 1 rfl ?_
    refine j_bipush C dX2_offer_6 (by decide +kernel) ?_
    refine j_icmp_le (tgt := 14) C dX2_offer_8 (by decide) (by omega) (by omega) (fun b2 => ?_) (fun b2 => ?_)
    · have hw6 : 1 ≤ w ∧ w ≤ 60 := by omega
      have hc8 := cnt_le (ef Hd L) 8
      have hfull : cnt (ef Hd L) 8 = 8 ↔ ∀ i : Nat, i < 8 → Hd i = 1 := (cnt_full 8).trans ⟨fun h i hi => (ef_pos hH hi).mp (h i hi), fun h i hi => (ef_pos hH hi).mpr (h i hi)⟩
      refine j_aload_n C dX2_offer_14 0 rfl ?_
      refine j_calli (ci := 1) (n := 0) C (y_jobs (kl k) (kD k) hH) q207 q208 q209 q24 q210 (by decide +kernel) rfl rfl (by decide) rfl rfl (Nat.le_of_ble_eq_true rfl) dX2_offer_15 (fun v u hv => ?_)
      obtain ⟨rfl, rfl⟩ := hv
      refine j_bipush C dX2_offer_18 (by decide +kernel) ?_
      refine j_icmp_ne (tgt := 26) C dX2_offer_20 (by decide) (by omega) (by omega) (fun b3 => ?_) (fun b3 => ?_)
      · refine j_iload_n C dX2_offer_26 1 rfl ?_
        refine j_aload_n C dX2_offer_27 0 rfl ?_
        refine j_calli (ci := 1) (n := 0) C (y_most (kl k) (kD k) hdl hmc1 hmc hR hH) q211 q213 qs16 q24 q214 (by decide +kernel) rfl rfl (by decide) rfl rfl (Nat.le_of_ble_eq_true rfl) dX2_offer_28 (fun v u hv => ?_)
        obtain ⟨⟨G, E, rfl⟩, hrm⟩ := hv
        have hvb := hrm.1
        have hiff := rm_iff hrm hw6.1 hw6.2
        refine j_icmp_le (tgt := 36) C dX2_offer_31 (by decide) (by omega) (by omega) (fun b4 => ?_) (fun b4 => ?_)
        · refine j_iconst C dX2_offer_36 ?_
          refine j_istore_n (lv' := [(0, .ref (a 0)), (1, .int (zI w)), (2, .int (zI 0))]) C dX2_offer_37 (by decide) rfl rfl ?_
          exact y_l_offer C hH w hw6 (hiff.mp b4) (fun h => b3 (by rw [hfull.mpr h]; rfl)) hret 9 0 (by omega) (by omega) (fun i h => by omega)
        · refine j_iconst C dX2_offer_34 ?_
          exact j_ret hret dX2_offer_35 rfl (⟨Hd, L, ⟨G, E, rfl⟩, Or.inr (Or.inr (Or.inl ⟨hw6, fun h => b3 (by rw [hfull.mpr h]; rfl), fun h => b4 (hiff.mpr h), rfl, rfl, rfl⟩))⟩)
      · refine j_bipush C dX2_offer_23 (by decide +kernel) ?_
        exact j_ret hret dX2_offer_25 rfl (⟨Hd, L, ⟨G, E, rfl⟩, Or.inr (Or.inl ⟨hw6, hfull.mp (by omega), rfl, rfl, rfl⟩)⟩)
    · refine j_bipush C dX2_offer_11 (by decide +kernel) ?_
      exact j_ret hret dX2_offer_13 rfl (⟨Hd, L, ⟨G, E, rfl⟩, Or.inl ⟨by omega, rfl, rfl, rfl⟩⟩)
end Mod2
end
section
/-! rows for constructors and for the law: new cells, final fields, a constructor's contract and call, a call in a part of the world, the script -/
set_option maxRecDepth 100000
def jVc (k : JK) (cc : ByteArray) (cs sl : Nat) (post : va_W → List (ClassId × FieldType) → Prop) : Prop :=
  ∀ (pc : Nat) (ls : Array Slot) (u : va_W) (tys : List (ClassId × FieldType)) (H : Heap) (locs : List Loc), decode cc pc = .ok (.return_, 1) → va_K (kD k) vwCl tys (ks k) → post u tys → va_P (kD k) vwCl u H → va_D (kA k) u → va_S (kA k) (ks k).heap H locs →
    W (kp k) (kl k) (ke k) (kr k) (ks k) (km k) (ka k) (kb k) (kt k) (kc k) H locs cs sl (kq k) (F0 (km k) pc ls [])
/-- a constructor: it makes cs cells of sl slots -/
def MC (l : Launch) (y : MethodName) (cc : ByteArray) (nL : Nat) (rm : Room) (D : va_G) (tys : List (ClassId × FieldType)) (av : List Value) (ws : va_W) (post : va_W → List (ClassId × FieldType) → Prop) (cs sl : Nat) : Prop :=
  ∀ sz : Nat, Met l y (ws_ y cc nL none) rm (jPre D tys av ws sz) (va_Qv (fun (u : va_W × List (ClassId × FieldType)) => post u.1 u.2) (fun u t => jB D u.2 (va_A ws sz) u.1 t) (va_A ws sz)) cs sl (va_A ws sz)
theorem mc_of {l : Launch} {y : MethodName} {cc : ByteArray} {nL cs sl : Nat} {rm : Room} {D : va_G} {tys : List (ClassId × FieldType)} {av : List Value} {ws : va_W} {post : va_W → List (ClassId × FieldType) → Prop} (own : String) (hyo : y.cls = own) (hy : plainName y.cls = true) (hyn : y.name = "<init>") (hn : (lg_sl av).length ≤ nL)
    (h : ∀ k : JK, kl k = l → kD k = D → (kt k).name = "<init>" → jC k cc nL own tys rm → jVc k cc cs sl post → JJ k 0 0 ws 0 (lv_args 0 av) []) : MC l y cc nL rm D tys av ws post cs sl := by
  intro sz
  refine Met.ofW (cc := cc) (maxL := nL) (ret := none) hy rfl ?_
  intro p e s m args below meth c s₁ B hml hv
  obtain ⟨rfl, hsz, hP, hK, hD0⟩ := hv
  have hts := atoms_spec (ws := ws_ y cc nL none) B.pre
  have hts : ∀ w ∈ lw_all, w.before _ s = true := fun w h => hts w (List.mem_cons_of_mem _ h)
  have hown : s.vm.findClass own = some m.cls := by rw [← hyo]; exact findClass_of_methodNamed B.named
  have hlocks := B.notSynchronized
  have hin : meth.name = "<init>" := by rw [← hyn]; exact (name_of_methodNamed B.named B.method).1
  subst hsz
  have hD := hD0.self (sz := s.heap.size)
  have hl := lv_entry av (n := nL) hn
  rw [lg_entry_eq]
  refine h (p, l, e, (headSpec (ws_ y cc nL none) rm).room, s, m, av.toArray, below, meth, c, MQ below (va_Qv (fun (u : va_W × List (ClassId × FieldType)) => post u.1 u.2) (fun u t => jB D u.2 (va_A ws s.heap.size) u.1 t) (va_A ws s.heap.size)) av.toArray s cs sl (va_A ws s.heap.size), nL, D, va_A ws s.heap.size) rfl rfl hin ⟨B.exec, B.bytes, hml, hown, hts, hK, fun q h => Or.inr h, rfl, rfl⟩ ?_ _ _ _ hl hP hD va_S.rf
  intro pc ls u tys1 H locs hd hK1 hp hP hD hS
  exact W.vret B.exec B.bytes B.returns (fun t ht hW => ⟨⟨(u, tys1), rfl, hp, by rw [ht]; exact hP, va_K.moved hW.alike hK1, hD⟩, hS.F ht⟩) hS.2.2 hd
section JCtor
variable {k : JK} {cc : ByteArray} {nL : Nat} {own : String} {tys : List (ClassId × FieldType)} {rm : Room} {cs sl pc : Nat} {ws : va_W} {lv : List (Nat × Value)} {st : List Value}
theorem j_cret (C : jC k cc nL own tys rm) {post : va_W → List (ClassId × FieldType) → Prop} (h : jVc k cc cs sl post) (hd : decode cc pc = .ok (.return_, 1)) (hp : post ws tys) : JJ k cs sl ws pc lv [] :=
  fun ls H locs _ hP hD hS => h pc ls ws tys H locs hd C.2.2.2.2.2.1 hp hP hD hS
theorem j_objInit (C : jC k cc nL own tys rm) {idx a : Nat} (h1 : Cond.methodLink own idx Lib.objectInit ∈ lw_all) (h2 : Cond.instanceMethod Lib.objectInit ∈ lw_all) (h3 : Cond.code Lib.objectInit ⟨#[0xb1]⟩ 1 none ∈ lw_all) (hd : decode cc pc = .ok (.invokespecial idx, 3)) (hf : 1 ≤ rm.frames) (hlc : (st.map fun v => v.category).sum + 12 ≤ rm.locals) (kk : JJ k cs sl ws (pc + 3) lv st) : JJ k cs sl ws pc lv (.ref a :: st) := by
  obtain ⟨hx, hb, hml, hown, hts, hK, hA, hn, hr⟩ := C
  intro ls H locs hl hP hD hS
  refine W.objInit hx hb hown (hts _ h1) (hts _ h2) (hts _ h3) rfl (by rw [hml, ← hn]; exact hl.1) rfl hd (by rw [hr]; exact hf) (by rw [hr]; show 2 * 0 + _ + 12 ≤ _; omega) ?_
  exact kk ls H locs hl hP hD hS
theorem j_newa (C : jC k cc nL own tys rm) {atype : ArrayType} {ty : FieldType} (hty : newarray.typeOf atype = ty) (harr : Cond.arrayClass ty ∈ lw_all) {i : Int} (N : Nat) (hi : i = N) (hN : N < 1000) (hdv : defaultValue ty = .int 0) (hcb : componentBytes ty ≤ 8) (hcap : cs + 1 ≤ rm.cells ∧ sl + N ≤ rm.slots) (hd : decode cc pc = .ok (.newarray atype, 2))
    (kk : ∀ (q : Nat) (cA : ClassId), jC k cc nL own (tys ++ [(cA, ty)]) rm → JJ k (cs + 1) (sl + N) (ws ++ [(q, .inl (cA, N, .inl (zF (fun _ => 0))))]) (pc + 2) lv (.ref q :: st)) : JJ k cs sl ws pc lv (.int (zI i) :: st) := by
  obtain ⟨hx, hb, hml, hown, hts, hK, hA, hn, hr⟩ := C
  intro ls H locs hl hP hD hS
  have hbytes : N * componentBytes ty ≤ 536870912 := Nat.le_trans (Nat.mul_le_mul (Nat.le_of_lt hN) hcb) (by decide)
  refine va_newa (a0 := (N, .inl (zF (fun _ => 0)))) hx hb (by rw [hty]; exact hts _ harr) hty hK hP hD hS hA (fun cA => ?_) (fun q => ?_) (zI_cl hi (by omega)) hbytes (by rw [hr]; exact hcap.1) (by rw [hr]; exact hcap.2) hd (fun q cA H1 hK1 hP1 hD1 hS1 => kk q cA ⟨hx, hb, hml, hown, hts, hK1, hA, hn, hr⟩ ls H1 locs hl hP1 hD1 hS1)
  · rw [vp_cell_i, hdv]
    show arrV cA N (fun _ => Value.int (zI 0)) = _
    rw [← zI_0]
  · rw [zI_0, zI_lt (by omega) (by omega)] at q
    omega
/-- a further array of ints: its class is the one that is known -/
theorem j_newaI (C : jC k cc nL own tys rm) {d : ClassId} (t0 : Nat) (he : tys[t0]? = some (d, .int)) (harr : Cond.arrayClass .int ∈ lw_all) {i : Int} (N : Nat) (hi : i = N) (hN : N < 1000) (hcap : cs + 1 ≤ rm.cells ∧ sl + N ≤ rm.slots) (hd : decode cc pc = .ok (.newarray .int, 2))
    (kk : ∀ (q : Nat), JJ k (cs + 1) (sl + N) (ws ++ [(q, .inl (d, N, .inl (zF (fun _ => 0))))]) (pc + 2) lv (.ref q :: st)) : JJ k cs sl ws pc lv (.int (zI i) :: st) := by
  refine j_newa C (ty := .int) rfl harr N hi hN rfl (by decide) hcap hd (fun q cA C1 => ?_)
  have h1 : (ks k).vm.findClass ("[" ++ FieldType.int.toString) = some d := (C.2.2.2.2.2.1.2 t0 (d, .int) he).2
  have h2 : (ks k).vm.findClass ("[" ++ FieldType.int.toString) = some cA := (C1.2.2.2.2.2.1.2 tys.length (cA, .int) (by simp)).2
  have e : d = cA := Option.some.inj (h1.symm.trans h2)
  subst e
  exact kk q
theorem j_putF (C : jC k cc nL own tys rm) {ref Cn : String} {T : u_T} {N ci idx : Nat} (hin : ∀ w ∈ u_ws Cn T N, w ∈ lw_all) (ty0 : Nat → FieldType) (hty : ∀ k, k < N → parseFieldDescriptor (T k).2.2.1 = some (ty0 k)) (hnm : ∀ a, a < N → ∀ b, b < N → a ≠ b → (T a).2.1 ≠ (T b).2.1) (q0 : Nat) {a : Nat} {fs : List Value} (he : ws[q0]? = some (a, .inr (ci, fs))) (hc : vwCl[ci]? = some (Cn, T, N)) (f : Nat) (hf : f < N) (hlink : Cond.fieldLink own idx ref (T f).2.1 (T f).2.2.1 ∈ lw_all) (hsame : ref = (T f).1) (hfin : (T f).2.2.2 = true) (hi2 : (kt k).name = "<init>") (hdecl : (T f).1 = own) {v : Value} (hn : narrow (ty0 f) v = v) (hfit : fits (ty0 f) v = true) (hl : f < fs.length) (hd : decode cc pc = .ok (.putfield idx, 3)) {ws' : va_W} (hw : ws.set q0 (a, .inr (ci, fs.set f v)) = ws') (kk : JJ k cs sl ws' (pc + 3) lv st) : JJ k cs sl ws pc lv (v :: .ref a :: st) := by
  subst hw
  exact fun ls H locs h hP hD hS => va_putF C.1 C.2.1 C.2.2.2.2.1 hin ty0 hty hnm C.2.2.2.1 C.2.2.2.2.2.1 hP hD hS q0 he hc f hf (C.2.2.2.2.1 _ hlink) (fun x hx => by rw [hsame]; exact hx) hfin hi2 hdecl (hty f hf) hn hfit hl hd (fun H1 locs1 hP1 hD1 hS1 => kk ls H1 locs1 h hP1 hD1 hS1)
theorem j_new (C : jC k cc nL own tys rm) {Cn : String} {T : u_T} {N ci idx : Nat} (hin : ∀ w ∈ u_ws Cn T N, w ∈ lw_all) (ty : Nat → FieldType) (hty : ∀ k, k < N → parseFieldDescriptor (T k).2.2.1 = some (ty k)) (hcl : Cond.classLink own idx Cn ∈ lw_all) (hinst : Cond.instantiable Cn N ∈ lw_all) (hini : Cond.initialized Cn ∈ lw_all) (hc : vwCl[ci]? = some (Cn, T, N)) {fs : List Value} (hfs : ∀ j, j < N → defaultValue (ty j) = vp_V fs j) (hcap : cs + 1 ≤ rm.cells ∧ sl + N ≤ rm.slots) (hd : decode cc pc = .ok (.new idx, 3))
    (kk : ∀ (q : Nat), JJ k (cs + 1) (sl + N) (ws ++ [(q, .inr (ci, fs))]) (pc + 3) lv (.ref q :: st)) : JJ k cs sl ws pc lv st := by
  obtain ⟨hx, hb, hml, hown, hts, hK, hA, hn, hr⟩ := C
  intro ls H locs hl hP hD hS
  exact va_new hx hb hts hin ty hty hown (hts _ hcl) (hts _ hinst) (hts _ hini) hK hP hD hS hA hc hfs (by rw [hr]; exact hcap.1) (by rw [hr]; exact hcap.2) hd (fun q H1 hP1 hD1 hS1 => kk q ls H1 locs hl hP1 hD1 hS1)
/-- a constructor's call, its object a part of the world -/
theorem j_callc (C : jC k cc nL own tys rm) {y : MethodName} {cc' : ByteArray} {nL' : Nat} {rm' : Room} {b : Nat} {As rest : List Value} {post : va_W → List (ClassId × FieldType) → Prop} {mcc mss idx n : Nat} {wc wr : va_W} (isC isR : List Nat) (hC : isC.map (fun i => ws[i]?) = wc.map some) (hC2 : isC.filterMap (fun i => ws[i]?) = wc) (hR1 : isR.map (fun i => ws[i]?) = wr.map some) (hnC : va_nd isC = true) (hnR : va_nd isR = true) (hdis : ∀ i ∈ isR, i ∉ isC)
    (hM : MC (kl k) y cc' nL' rm' (kD k) tys (.ref b :: As) wc post mcc mss)
    (h1 : Cond.methodLink own idx y ∈ lw_all) (h2 : Cond.instanceMethod y ∈ lw_all) (h4 : Cond.initialized y.cls ∈ lw_all) (h5 : Cond.code y cc' nL' none ∈ lw_all) (hyn : y.name = "<init>")
    (hdn : y.cls ≠ "java/lang/invoke/MethodHandle" ∧ y.cls ≠ "java/lang/invoke/VarHandle" ∧ (parseMethodDescriptor y.desc).map (fun d => d.parameters.length) = some n)
    (hR : (rm'.frames + 1 ≤ rm.frames ∧ 8 + (nL' + 11) + rm'.locals ≤ rm.locals) ∧ (rm'.cells = mcc ∧ rm'.slots = mss) ∧ (cs + mcc ≤ rm.cells ∧ sl + mss ≤ rm.slots)) (hnA : As.length = n) (hst : st = As.reverse ++ .ref b :: rest) (hcat : (rest.map fun v => v.category).sum ≤ 8)
    (hd : decode cc pc = .ok (.invokespecial idx, 3)) (kk : ∀ (u : va_W) (tysu : List (ClassId × FieldType)), post u tysu → jC k cc nL own tysu rm → JJ k (cs + mcc) (sl + mss) (wr ++ u) (pc + 3) lv rest) : JJ k cs sl ws pc lv st := by
  obtain ⟨hx, hb, hml, hown, hts, hK, hA, hn, hr⟩ := C
  subst hst
  intro ls H locs hl hP hD hS
  have hPc := hP.sub isC hC2
  have hDc := hD.sub isC hnC hC
  have hFc := va_free (wc := wc) hD hS hA isC hC
  refine va_callv (va_runI (As := As) (rest := rest) ⟨hx, hb, hml, hown, hts⟩ (hM H.size) (cwI n hts (lw_meth h5) rfl hR.2.1.1 hR.2.1.2 (hts _ h4) (hts _ h1) (hts _ h2) hyn hdn (by rw [hr]; exact hR.1)) ⟨jPre_blind, fun U hU hW => ⟨rfl, by rw [hU], by rw [hU]; exact hPc, va_K.moved hW.alike hK, hDc.weaken (fun _ _ _ _ => trivial)⟩⟩ rfl hnA (hl.1.trans hn) rfl (lv_room hcat) hd (by rw [hr]; exact hR.2.2)) hS (fun q _ h => hFc q h) hFc (fun u t H1 locs1 ht hvm hp hB hz1 hk1 hS1 => ?_)
  obtain ⟨hP1, hK1, hD1⟩ := hB
  rw [ht] at hP1
  obtain ⟨hP2, hD2⟩ := va_join (wr := wr) (w1 := u.1) hP hD isC isR hC hR1 hnR hdis hk1 hFc hP1 hD1
  exact kk u.1 u.2 hp ⟨hx, hb, hml, hown, hts, va_K.moved hvm.symm hK1, hA, hn, hr⟩ ls H1 locs1 hl hP2 hD2 hS1
/-- a call of a method through an object that is a part of the world -/
theorem j_callip (C : jC k cc nL own tys rm) {y : MethodName} {cc' : ByteArray} {nL' : Nat} {rt : FieldType} {rm' : Room} {b : Nat} {As rest : List Value} {post : Int → va_W → Prop} {idx n : Nat} {Cn : String} {T : u_T} {N ci : Nat} {fs : List Value} {wc wr : va_W} {tys' : List (ClassId × FieldType)} (isC isR isT : List Nat) (hC : isC.map (fun i => ws[i]?) = wc.map some) (hC2 : isC.filterMap (fun i => ws[i]?) = wc) (hR1 : isR.map (fun i => ws[i]?) = wr.map some) (hnC : va_nd isC = true) (hnR : va_nd isR = true) (hdis : ∀ i ∈ isR, i ∉ isC) (hT : isT.filterMap (fun i => tys[i]?) = tys')
    (hM : MI (kl k) y cc' nL' rt rm' (kD k) tys' (.ref b :: As) wc post)
    (h1 : Cond.methodLink own idx y ∈ lw_all) (h2 : Cond.instanceMethod y ∈ lw_all) (h3 : Cond.selects Cn y y ∈ lw_all) (h4 : Cond.initialized Cn ∈ lw_all) (h5 : Cond.code y cc' nL' (some rt) ∈ lw_all)
    (hdn : y.cls = Cn ∧ y.cls ≠ "java/lang/invoke/MethodHandle" ∧ y.cls ≠ "java/lang/invoke/VarHandle" ∧ (parseMethodDescriptor y.desc).map (fun d => d.parameters.length) = some n)
    (hc : vwCl[ci]? = some (Cn, T, N)) (he : wc[0]? = some (b, .inr (ci, fs)))
    (hR : (rm'.frames + 1 ≤ rm.frames ∧ 8 + (nL' + 11) + rm'.locals ≤ rm.locals) ∧ (rm'.cells = 0 ∧ rm'.slots = 0) ∧ (cs ≤ rm.cells ∧ sl ≤ rm.slots)) (hnA : As.length = n) (hst : st = As.reverse ++ .ref b :: rest) (hcat : (rest.map fun v => v.category).sum ≤ 8)
    (hd : decode cc pc = .ok (.invokevirtual idx, 3)) (kk : ∀ (v : Int) (u : va_W), post v u → JJ k cs sl (wr ++ u) (pc + 3) lv (.int (zI v) :: rest)) : JJ k cs sl ws pc lv st := by
  obtain ⟨hx, hb, hml, hown, hts, hK, hA, hn, hr⟩ := C
  subst hst
  intro ls H locs hl hP hD hS
  have hPc := hP.sub isC hC2
  have hDc := hD.sub isC hnC hC
  have hKc := hK.sub isT hT
  have hFc := va_free (wc := wc) hD hS hA isC hC
  refine va_calli (va_runV (As := As) (rest := rest) ⟨hx, hb, hml, hown, hts⟩ (hM H.size) (cwV n hts (lw_V h1 h2 h3 h4 h5) rfl hR.2.1.1 hR.2.1.2 hdn (by rw [hr]; exact hR.1)) ⟨jPre_blind, va_recv hKc hPc hc he, fun U hU hW => ⟨rfl, by rw [hU], by rw [hU]; exact hPc, va_K.moved hW.alike hKc, hDc.weaken (fun _ _ _ _ => trivial)⟩⟩ rfl hnA (hl.1.trans hn) rfl (lv_room hcat) hd (by rw [hr]; exact hR.2.2)) hS (fun q _ h => hFc q h) hFc (fun r u t H1 locs1 ht hvm hp hB hz1 hk1 hS1 => ?_)
  obtain ⟨v, rfl, hp⟩ := hp
  obtain ⟨hP1, -, hD1⟩ := hB
  rw [ht] at hP1
  obtain ⟨hP2, hD2⟩ := va_join (wr := wr) (w1 := u) hP hD isC isR hC hR1 hnR hdis hk1 hFc hP1 hD1
  exact kk v u hp ls H1 locs1 hl hP2 hD2 hS1
/-- the law's script -/
def jX (k : JK) (b L : Nat) (xs : Nat → Int32) : Prop := va_X b L xs (ks k) (ks k).heap ∧ b < (ks k).heap.size ∧ ¬ kA k b
theorem j_sld (C : jC k cc nL own tys rm) {b L : Nat} {xs : Nat → Int32} (hX : jX k b L xs) {i : Int} (n : Nat) (hi : i = n) (hn : n < L) (hL : L < 2147483648) (hd : decode cc pc = .ok (.iaload, 1)) (kk : JJ k cs sl ws (pc + 1) lv (.int (zI (xs n).toInt) :: st)) : JJ k cs sl ws pc lv (.int (zI i) :: .ref b :: st) :=
  fun ls H locs h hP hD hS => va_sld C.1 C.2.1 hX.1 hX.2.1 hX.2.2 hS (zI_in hi hn hL) hd (by rw [zI_cl hi (by omega), ← zI_of (xs n)]; exact kk ls H locs h hP hD hS)
theorem j_slen (C : jC k cc nL own tys rm) {b L : Nat} {xs : Nat → Int32} (hX : jX k b L xs) (hd : decode cc pc = .ok (.arraylength, 1)) (kk : JJ k cs sl ws (pc + 1) lv (.int (zI ((L : Nat) : Int)) :: st)) : JJ k cs sl ws pc lv (.ref b :: st) :=
  fun ls H locs h hP hD hS => va_slen C.1 C.2.1 hX.1 hX.2.1 hX.2.2 hS hd (by rw [show Int32.ofNat L = zI ((L : Nat) : Int) from (zI_nat L).symm]; exact kk ls H locs h hP hD hS)
theorem j_tsw (C : jC k cc nL own tys rm) {dflt lo hi : Int} {offs : Array Int} {len : Nat} {v : Int32} {off : Int} {tgt : Nat} (hd : decode cc pc = .ok (.tableswitch dflt lo hi offs, len)) (h1 : ¬ v.toInt < lo) (h2 : ¬ hi < v.toInt) (ho : offs[(v.toInt - lo).toNat]? = some off) (ht : (pc : Int) + off = (tgt : Int)) (kk : JJ k cs sl ws tgt lv st) : JJ k cs sl ws pc lv (.int v :: st) :=
  fun ls H locs h hP hD hS => lv_tableIn C.1 C.2.1 hd h1 h2 ho ht (kk ls H locs h hP hD hS)
end JCtor
/-- what cell(script, n) answers -/
def cellI (L : Nat) (xs : Nat → Int32) (n : Nat) : Int := if n < L then (xs n).toInt else 0
theorem m_cell (l : Launch) (b L : Nat) (xs : Nat → Int32) (n : Nat) (hL : L < 1000) (hn : n < 1000) (sz : Nat) : Met l yX0_cell (ws_ yX0_cell cX0_cell 2 (some .int)) (rmd 0) (va_Pc [.ref b, .int (zI ((n : Nat) : Int))] (fun U => U.heap.size = sz ∧ va_X b L xs U U.heap ∧ b < sz)) (va_Qi (fun (r : Int32) (_ : Unit) => r = zI (cellI L xs n)) (fun _ _ => True) (va_A [] sz)) 0 0 (va_A [] sz) := by
  refine Met.ofW (cc := cX0_cell) (maxL := 2) (ret := some .int) (by decide +kernel) rfl ?_
  intro p e s m args below meth c s₁ B hml hv
  obtain ⟨rfl, hsz, hX, hbl⟩ := hv
  have hx := B.exec
  have hb := B.bytes
  have hr := B.returns
  have hlocks := B.notSynchronized
  subst hsz
  have hbA : ¬ va_A [] s.heap.size b := by
    rintro (⟨j, e, h⟩ | h)
    · simp at h
    · omega
  have hS : va_S (va_A [] s.heap.size) s.heap s.heap [] := va_S.rf
  have hl := lv_entry ([.ref b, .int (zI ((n : Nat) : Int))]) (n := 2) (Nat.le_of_ble_eq_true rfl)
  rw [lg_entry_eq]
  generalize (lg_sl ([.ref b, .int (zI ((n : Nat) : Int))]) ++ List.replicate (2 - (lg_sl ([.ref b, .int (zI ((n : Nat) : Int))])).length) Slot.unset).toArray = ls at hl ⊢
  have hl : lv_has ls 2 [(0, .ref b), (1, .int (zI ((n : Nat) : Int)))] := hl
  refine lv_iload_n hx hb dX0_cell_0 rfl (lv_at hl 1 rfl) ?_
  refine lv_aload_n hx hb dX0_cell_1 rfl (lv_at hl 0 rfl) ?_
  refine va_slen hx hb hX hbl hbA hS dX0_cell_2 ?_
  rw [show Int32.ofNat L = zI ((L : Nat) : Int) from (zI_nat L).symm]
  refine lv_icmp_ge (tgt := 12) hx hb dX0_cell_3 (by decide) (fun h => ?_) (fun h => ?_)
  · rw [zI_le (by omega) (by omega)] at h
    refine lv_iconst (v := zI 0) hx hb dX0_cell_12 rfl ?_
    refine W.iret (v := zI 0) hx hb hr (fun t ht hW => ⟨⟨zI 0, (), rfl, ?_, trivial⟩, hS.F ht⟩) hS.2.2 dX0_cell_13
    unfold cellI
    rw [if_neg (by omega)]
  · rw [zI_le (by omega) (by omega)] at h
    refine lv_aload_n hx hb dX0_cell_6 rfl (lv_at hl 0 rfl) ?_
    refine lv_iload_n hx hb dX0_cell_7 rfl (lv_at hl 1 rfl) ?_
    refine va_sld hx hb hX hbl hbA hS (zI_in rfl (by omega) (by omega)) dX0_cell_8 ?_
    rw [zI_cl rfl (by omega)]
    refine lv_goto (tgt := 13) hx hb dX0_cell_9 (by decide) ?_
    refine W.iret (v := xs n) hx hb hr (fun t ht hW => ⟨⟨xs n, (), rfl, ?_, trivial⟩, hS.F ht⟩) hS.2.2 dX0_cell_13
    unfold cellI
    rw [if_pos (by omega), zI_of]
/-- the call of cell in the law -/
theorem j_cell {k : JK} {cc : ByteArray} {nL : Nat} {tys : List (ClassId × FieldType)} {rm : Room} {cs sl pc : Nat} {ws : va_W} {lv : List (Nat × Value)} {rest : List Value} (C : jC k cc nL "BatchAdmissionLaw" tys rm) {b L : Nat} {xs : Nat → Int32} (hX : jX k b L xs) (hL : L < 1000) (n : Nat) (hn : n < 1000) (hR : (1 ≤ rm.frames ∧ 21 ≤ rm.locals) ∧ (cs ≤ rm.cells ∧ sl ≤ rm.slots)) (hcat : (rest.map fun v => v.category).sum ≤ 8)
    (hd : decode cc pc = .ok (.invokestatic 9, 3)) (kk : JJ k cs sl ws (pc + 3) lv (.int (zI (cellI L xs n)) :: rest)) : JJ k cs sl ws pc lv (.int (zI ((n : Nat) : Int)) :: .ref b :: rest) := by
  obtain ⟨hx, hb, hml, hown, hts, hK, hA, hnn, hr⟩ := C
  intro ls H locs hl hP hD hS
  have hFc : ∀ q, va_A [] H.size q → kA k q := by
    rintro q (⟨j, e, h⟩ | h)
    · simp at h
    · exact hA q (Nat.le_trans hS.1 h)
  have hXH : va_X b L xs (ks k) H := hX.1.kept (hS.2.1 b hX.2.1 hX.2.2)
  refine va_calli (va_runS (As := [.ref b, .int (zI ((n : Nat) : Int))]) (rest := rest) ⟨hx, hb, hml, hown, hts⟩ (m_cell (kl k) b L xs n hL hn H.size) (va_cwS 2 hts (lw_S q171 q172 q22 q173) rfl rfl rfl (by decide +kernel) (by rw [hr]; exact ⟨hR.1.1, hR.1.2⟩)) ⟨fun a U g mk q => by obtain ⟨q0, q1, qX, qb⟩ := q; exact ⟨q0, q1, va_X.moved (u := U) (U := U.calling g mk a) (Vm.Alike.refl U.vm) qX, qb⟩, fun U hU hW => ⟨rfl, by rw [hU], by rw [hU]; exact va_X.moved hW.alike hXH, Nat.lt_of_lt_of_le hX.2.1 hS.1⟩⟩ rfl rfl (hl.1.trans hnn) rfl (lv_room hcat) hd (by rw [hr]; exact hR.2)) hS (fun q _ h => hFc q h) hFc (fun r u t H1 locs1 ht hvm hp hB hz1 hk1 hS1 => ?_)
  subst hp
  refine kk ls H1 locs1 hl (hP.kept (fun j q hq => hk1 q.1 (hP j q hq).lt ?_)) hD hS1
  rintro (⟨j2, e, h⟩ | h)
  · simp at h
  · have := (hP j q hq).lt
    omega
end
section
/-! the two constructors -/
set_option maxRecDepth 100000
def cm (p : Int) : Nat := if p < 1 then 1 else if 3 < p then 3 else p.toNat
def cd (p : Int) : Int := if p < 0 then 0 else if 300 < p then 300 else p
theorem cm_bd (p : Int) : 1 ≤ cm p ∧ cm p ≤ 3 := by
  unfold cm
  split
  · omega
  · split <;> omega
theorem cd_bd (p : Int) : 0 ≤ cd p ∧ cd p ≤ 300 := by
  unfold cd
  split
  · omega
  · split <;> omega
set_option maxHeartbeats 4000000 in
/-- BatchAdmission(machines, deadline) -/
theorem m_init (l : Launch) (D : va_G) (h0 : Nat) (p1 p2 : Int) (hp1 : -2147483648 ≤ p1 ∧ p1 < 2147483648) (hp2 : -2147483648 ≤ p2 ∧ p2 < 2147483648) : MC l yX1_init cX1_init 3 ({ frames := 1, cells := 8, slots := 61, locals := 30 } : Room) D [] [.ref h0, .int (zI p1), .int (zI p2)] [(h0, .inr (0, [.int (zI 0), .int (zI 0), .null, .null, .null, .int (zI 0), .null, .null, .null, .null, .int (zI 0), .int (zI 0), .null]))] (fun u tysu => ∃ (d : ClassId) (a : Nat → Nat), tysu = [(d, .int)] ∧ a 0 = h0 ∧ u = xw d a (cm p1) (cd p2) 0 0 0 (fun _ => 0) (fun _ => 0) (fun _ => 0) (fun _ => 0) (fun _ => 0) (fun _ => 0) (fun _ => 0) (fun _ => 0)) 8 61 := by
  refine mc_of RX1 rfl (by decide +kernel) rfl (Nat.le_of_ble_eq_true rfl) (fun k hkl hkD hin C hret => ?_)
  have h53 : JJ k 0 0 [(h0, .inr (0, [.int (zI ((cm p1 : Nat) : Int)), .int (zI (cd p2)), .null, .null, .null, .int (zI 0), .null, .null, .null, .null, .int (zI 0), .int (zI 0), .null]))] 53 [(0, .ref h0), (1, .int (zI p1)), (2, .int (zI p2))] [] := by
    refine j_aload_n C dX1_init_53 0 rfl ?_
    refine j_iconst C dX1_init_54 ?_
    refine j_newa C (ty := .int) rfl q73 3 rfl (by decide) rfl (by decide) (by decide) dX1_init_55 (fun q1 d C => ?_)
    refine j_putF (ci := 0) (ws' := [(h0, .inr (0, [.int (zI ((cm p1 : Nat) : Int)), .int (zI (cd p2)), .ref q1, .null, .null, .int (zI 0), .null, .null, .null, .null, .int (zI 0), .int (zI 0), .null])), (q1, .inl (d, 3, .inl (zF (fun _ => 0))))]) C in_X1 tyX1 tyX1_ok nmX1 0 rfl rfl 2 (by decide) q35 rfl rfl hin rfl rfl rfl (Nat.le_of_ble_eq_true rfl) dX1_init_57 rfl ?_
    refine j_aload_n C dX1_init_60 0 rfl ?_
    refine j_bipush C dX1_init_61 (by decide +kernel) ?_
    refine j_newaI C 0 rfl q73 9 rfl (by decide) (by decide) dX1_init_63 (fun q2 => ?_)
    refine j_putF (ci := 0) (ws' := [(h0, .inr (0, [.int (zI ((cm p1 : Nat) : Int)), .int (zI (cd p2)), .ref q1, .ref q2, .null, .int (zI 0), .null, .null, .null, .null, .int (zI 0), .int (zI 0), .null])), (q1, .inl (d, 3, .inl (zF (fun _ => 0)))), (q2, .inl (d, 9, .inl (zF (fun _ => 0))))]) C in_X1 tyX1 tyX1_ok nmX1 0 rfl rfl 3 (by decide) q36 rfl rfl hin rfl rfl rfl (Nat.le_of_ble_eq_true rfl) dX1_init_65 rfl ?_
    refine j_aload_n C dX1_init_68 0 rfl ?_
    refine j_bipush C dX1_init_69 (by decide +kernel) ?_
    refine j_newaI C 0 rfl q73 9 rfl (by decide) (by decide) dX1_init_71 (fun q3 => ?_)
    refine j_putF (ci := 0) (ws' := [(h0, .inr (0, [.int (zI ((cm p1 : Nat) : Int)), .int (zI (cd p2)), .ref q1, .ref q2, .ref q3, .int (zI 0), .null, .null, .null, .null, .int (zI 0), .int (zI 0), .null])), (q1, .inl (d, 3, .inl (zF (fun _ => 0)))), (q2, .inl (d, 9, .inl (zF (fun _ => 0)))), (q3, .inl (d, 9, .inl (zF (fun _ => 0))))]) C in_X1 tyX1 tyX1_ok nmX1 0 rfl rfl 4 (by decide) q37 rfl rfl hin rfl rfl rfl (Nat.le_of_ble_eq_true rfl) dX1_init_73 rfl ?_
    refine j_aload_n C dX1_init_76 0 rfl ?_
    refine j_bipush C dX1_init_77 (by decide +kernel) ?_
    refine j_newaI C 0 rfl q73 9 rfl (by decide) (by decide) dX1_init_79 (fun q4 => ?_)
    refine j_putF (ci := 0) (ws' := [(h0, .inr (0, [.int (zI ((cm p1 : Nat) : Int)), .int (zI (cd p2)), .ref q1, .ref q2, .ref q3, .int (zI 0), .ref q4, .null, .null, .null, .int (zI 0), .int (zI 0), .null])), (q1, .inl (d, 3, .inl (zF (fun _ => 0)))), (q2, .inl (d, 9, .inl (zF (fun _ => 0)))), (q3, .inl (d, 9, .inl (zF (fun _ => 0)))), (q4, .inl (d, 9, .inl (zF (fun _ => 0))))]) C in_X1 tyX1 tyX1_ok nmX1 0 rfl rfl 6 (by decide) q39 rfl rfl hin rfl rfl rfl (Nat.le_of_ble_eq_true rfl) dX1_init_81 rfl ?_
    refine j_aload_n C dX1_init_84 0 rfl ?_
    refine j_bipush C dX1_init_85 (by decide +kernel) ?_
    refine j_newaI C 0 rfl q73 10 rfl (by decide) (by decide) dX1_init_87 (fun q5 => ?_)
    refine j_putF (ci := 0) (ws' := [(h0, .inr (0, [.int (zI ((cm p1 : Nat) : Int)), .int (zI (cd p2)), .ref q1, .ref q2, .ref q3, .int (zI 0), .ref q4, .ref q5, .null, .null, .int (zI 0), .int (zI 0), .null])), (q1, .inl (d, 3, .inl (zF (fun _ => 0)))), (q2, .inl (d, 9, .inl (zF (fun _ => 0)))), (q3, .inl (d, 9, .inl (zF (fun _ => 0)))), (q4, .inl (d, 9, .inl (zF (fun _ => 0)))), (q5, .inl (d, 10, .inl (zF (fun _ => 0))))]) C in_X1 tyX1 tyX1_ok nmX1 0 rfl rfl 7 (by decide) q40 rfl rfl hin rfl rfl rfl (Nat.le_of_ble_eq_true rfl) dX1_init_89 rfl ?_
    refine j_aload_n C dX1_init_92 0 rfl ?_
    refine j_bipush C dX1_init_93 (by decide +kernel) ?_
    refine j_newaI C 0 rfl q73 10 rfl (by decide) (by decide) dX1_init_95 (fun q6 => ?_)
    refine j_putF (ci := 0) (ws' := [(h0, .inr (0, [.int (zI ((cm p1 : Nat) : Int)), .int (zI (cd p2)), .ref q1, .ref q2, .ref q3, .int (zI 0), .ref q4, .ref q5, .ref q6, .null, .int (zI 0), .int (zI 0), .null])), (q1, .inl (d, 3, .inl (zF (fun _ => 0)))), (q2, .inl (d, 9, .inl (zF (fun _ => 0)))), (q3, .inl (d, 9, .inl (zF (fun _ => 0)))), (q4, .inl (d, 9, .inl (zF (fun _ => 0)))), (q5, .inl (d, 10, .inl (zF (fun _ => 0)))), (q6, .inl (d, 10, .inl (zF (fun _ => 0))))]) C in_X1 tyX1 tyX1_ok nmX1 0 rfl rfl 8 (by decide) q41 rfl rfl hin rfl rfl rfl (Nat.le_of_ble_eq_true rfl) dX1_init_97 rfl ?_
    refine j_aload_n C dX1_init_100 0 rfl ?_
    refine j_iconst C dX1_init_101 ?_
    refine j_newaI C 0 rfl q73 3 rfl (by decide) (by decide) dX1_init_102 (fun q7 => ?_)
    refine j_putF (ci := 0) (ws' := [(h0, .inr (0, [.int (zI ((cm p1 : Nat) : Int)), .int (zI (cd p2)), .ref q1, .ref q2, .ref q3, .int (zI 0), .ref q4, .ref q5, .ref q6, .ref q7, .int (zI 0), .int (zI 0), .null])), (q1, .inl (d, 3, .inl (zF (fun _ => 0)))), (q2, .inl (d, 9, .inl (zF (fun _ => 0)))), (q3, .inl (d, 9, .inl (zF (fun _ => 0)))), (q4, .inl (d, 9, .inl (zF (fun _ => 0)))), (q5, .inl (d, 10, .inl (zF (fun _ => 0)))), (q6, .inl (d, 10, .inl (zF (fun _ => 0)))), (q7, .inl (d, 3, .inl (zF (fun _ => 0))))]) C in_X1 tyX1 tyX1_ok nmX1 0 rfl rfl 9 (by decide) q42 rfl rfl hin rfl rfl rfl (Nat.le_of_ble_eq_true rfl) dX1_init_104 rfl ?_
    refine j_aload_n C dX1_init_107 0 rfl ?_
    refine j_bipush C dX1_init_108 (by decide +kernel) ?_
    refine j_newaI C 0 rfl q73 8 rfl (by decide) (by decide) dX1_init_110 (fun q8 => ?_)
    refine j_putF (ci := 0) (ws' := [(h0, .inr (0, [.int (zI ((cm p1 : Nat) : Int)), .int (zI (cd p2)), .ref q1, .ref q2, .ref q3, .int (zI 0), .ref q4, .ref q5, .ref q6, .ref q7, .int (zI 0), .int (zI 0), .ref q8])), (q1, .inl (d, 3, .inl (zF (fun _ => 0)))), (q2, .inl (d, 9, .inl (zF (fun _ => 0)))), (q3, .inl (d, 9, .inl (zF (fun _ => 0)))), (q4, .inl (d, 9, .inl (zF (fun _ => 0)))), (q5, .inl (d, 10, .inl (zF (fun _ => 0)))), (q6, .inl (d, 10, .inl (zF (fun _ => 0)))), (q7, .inl (d, 3, .inl (zF (fun _ => 0)))), (q8, .inl (d, 8, .inl (zF (fun _ => 0))))]) C in_X1 tyX1 tyX1_ok nmX1 0 rfl rfl 12 (by decide) q45 rfl rfl hin rfl rfl rfl (Nat.le_of_ble_eq_true rfl) dX1_init_112 rfl ?_
    exact j_cret C hret dX1_init_115 ⟨d, fun i => ([h0, q1, q2, q3, q4, q5, q6, q7, q8] : List Nat).getD i 0, rfl, rfl, rfl⟩
  have h50 : JJ k 0 0 [(h0, .inr (0, [.int (zI ((cm p1 : Nat) : Int)), .int (zI 0), .null, .null, .null, .int (zI 0), .null, .null, .null, .null, .int (zI 0), .int (zI 0), .null]))] 50 [(0, .ref h0), (1, .int (zI p1)), (2, .int (zI p2))] [.int (zI (cd p2)), .ref h0] := by
    refine j_putF (ci := 0) (ws' := [(h0, .inr (0, [.int (zI ((cm p1 : Nat) : Int)), .int (zI (cd p2)), .null, .null, .null, .int (zI 0), .null, .null, .null, .null, .int (zI 0), .int (zI 0), .null]))]) C in_X1 tyX1 tyX1_ok nmX1 0 rfl rfl 1 (by decide) q34 rfl rfl hin rfl rfl rfl (Nat.le_of_ble_eq_true rfl) dX1_init_50 rfl ?_
    exact h53
  have h27 : JJ k 0 0 [(h0, .inr (0, [.int (zI ((cm p1 : Nat) : Int)), .int (zI 0), .null, .null, .null, .int (zI 0), .null, .null, .null, .null, .int (zI 0), .int (zI 0), .null]))] 27 [(0, .ref h0), (1, .int (zI p1)), (2, .int (zI p2))] [] := by
    refine j_aload_n C dX1_init_27 0 rfl ?_
    refine j_iload_n C dX1_init_28 2 rfl ?_
    refine j_if_ge (tgt := 36) C dX1_init_29 (by decide) (by omega) (fun b1 => ?_) (fun b1 => ?_)
    · refine j_iload_n C dX1_init_36 2 rfl ?_
      refine j_sipush C dX1_init_37 (by decide +kernel) ?_
      refine j_icmp_le (tgt := 49) C dX1_init_40 (by decide) (by omega) (by omega) (fun b2 => ?_) (fun b2 => ?_)
      · refine j_iload_n C dX1_init_49 2 rfl ?_
        rw [show cd p2 = p2 from by unfold cd; rw [if_neg (by omega), if_neg (by omega)]] at h50
        exact h50
      · refine j_sipush C dX1_init_43 (by decide +kernel) ?_
        refine j_goto (tgt := 50) C dX1_init_46 (by decide) ?_
        rw [show cd p2 = 300 from by unfold cd; rw [if_neg (by omega), if_pos (by omega)]] at h50
        exact h50
    · refine j_iconst C dX1_init_32 ?_
      refine j_goto (tgt := 50) C dX1_init_33 (by decide) ?_
      rw [show cd p2 = 0 from by unfold cd; rw [if_pos (by omega)]] at h50
      exact h50
  have h24 : JJ k 0 0 [(h0, .inr (0, [.int (zI 0), .int (zI 0), .null, .null, .null, .int (zI 0), .null, .null, .null, .null, .int (zI 0), .int (zI 0), .null]))] 24 [(0, .ref h0), (1, .int (zI p1)), (2, .int (zI p2))] [.int (zI ((cm p1 : Nat) : Int)), .ref h0] := by
    refine j_putF (ci := 0) (ws' := [(h0, .inr (0, [.int (zI ((cm p1 : Nat) : Int)), .int (zI 0), .null, .null, .null, .int (zI 0), .null, .null, .null, .null, .int (zI 0), .int (zI 0), .null]))]) C in_X1 tyX1 tyX1_ok nmX1 0 rfl rfl 0 (by decide) q33 rfl rfl hin rfl rfl rfl (Nat.le_of_ble_eq_true rfl) dX1_init_24 rfl ?_
    exact h27
  show JJ k 0 0 [(h0, .inr (0, [.int (zI 0), .int (zI 0), .null, .null, .null, .int (zI 0), .null, .null, .null, .null, .int (zI 0), .int (zI 0), .null]))] 0 [(0, .ref h0), (1, .int (zI p1)), (2, .int (zI p2))] []
  refine j_aload_n C dX1_init_0 0 rfl ?_
  refine j_objInit C q30 q31 q32 dX1_init_1 (by decide) (Nat.le_of_ble_eq_true rfl) ?_
  refine j_aload_n C dX1_init_4 0 rfl ?_
  refine j_iload_n C dX1_init_5 1 rfl ?_
  refine j_iconst C dX1_init_6 ?_
  refine j_icmp_ge (tgt := 14) C dX1_init_7 (by decide) (by omega) (by omega) (fun b1 => ?_) (fun b1 => ?_)
  · refine j_iload_n C dX1_init_14 1 rfl ?_
    refine j_iconst C dX1_init_15 ?_
    refine j_icmp_le (tgt := 23) C dX1_init_16 (by decide) (by omega) (by omega) (fun b2 => ?_) (fun b2 => ?_)
    · refine j_iload_n C dX1_init_23 1 rfl ?_
      rw [show ((cm p1 : Nat) : Int) = p1 from by unfold cm; rw [if_neg (by omega), if_neg (by omega)]; omega] at h24
      exact h24
    · refine j_iconst C dX1_init_19 ?_
      refine j_goto (tgt := 24) C dX1_init_20 (by decide) ?_
      rw [show ((cm p1 : Nat) : Int) = 3 from by unfold cm; rw [if_neg (by omega), if_pos (by omega)]; rfl] at h24
      exact h24
  · refine j_iconst C dX1_init_10 ?_
    refine j_goto (tgt := 24) C dX1_init_11 (by decide) ?_
    rw [show ((cm p1 : Nat) : Int) = 1 from by unfold cm; rw [if_pos (by omega)]; rfl] at h24
    exact h24
set_option maxHeartbeats 4000000 in
/-- BatchAdmissionModel(machines, deadline) -/
theorem y_init (l : Launch) (D : va_G) (d : ClassId) (h0 : Nat) (p1 p2 : Int) (hp1 : -2147483648 ≤ p1 ∧ p1 < 2147483648) (hp2 : -2147483648 ≤ p2 ∧ p2 < 2147483648) : MC l yX2_init cX2_init 3 ({ frames := 1, cells := 5, slots := 30, locals := 30 } : Room) D [(d, .int)] [.ref h0, .int (zI p1), .int (zI p2)] [(h0, .inr (1, [.int (zI 0), .int (zI 0), .null, .null, .null, .null, .null]))] (fun u tysu => ∃ (dz : ClassId) (a : Nat → Nat), tysu = [(d, .int), (dz, .boolean)] ∧ a 0 = h0 ∧ u = yw d dz a (cm p1) (cd p2) (fun _ => 0) (fun _ => 0) (fun _ => 0) (fun _ => 0) (fun _ => 0)) 5 30 := by
  refine mc_of RX2 rfl (by decide +kernel) rfl (Nat.le_of_ble_eq_true rfl) (fun k hkl hkD hin C hret => ?_)
  show JJ k 0 0 [(h0, .inr (1, [.int (zI 0), .int (zI 0), .null, .null, .null, .null, .null]))] 0 [(0, .ref h0), (1, .int (zI p1)), (2, .int (zI p2))] []
  refine j_aload_n C dX2_init_0 0 rfl ?_
  refine j_objInit C q179 q31 q32 dX2_init_1 (by decide) (Nat.le_of_ble_eq_true rfl) ?_
  refine j_aload_n C dX2_init_4 0 rfl ?_
  refine j_iconst C dX2_init_5 ?_
  refine j_newaI C 0 rfl q73 3 rfl (by decide) (by decide) dX2_init_6 (fun q1 => ?_)
  refine j_putF (ci := 1) (ws' := [(h0, .inr (1, [.int (zI 0), .int (zI 0), .ref q1, .null, .null, .null, .null])), (q1, .inl (d, 3, .inl (zF (fun _ => 0))))]) C in_X2 tyX2 tyX2_ok nmX2 0 rfl rfl 2 (by decide) q182 rfl rfl hin rfl rfl rfl (Nat.le_of_ble_eq_true rfl) dX2_init_8 rfl ?_
  refine j_aload_n C dX2_init_11 0 rfl ?_
  refine j_bipush C dX2_init_12 (by decide +kernel) ?_
  refine j_newa C (ty := .boolean) rfl q202 8 rfl (by decide) rfl (by decide) (by decide) dX2_init_14 (fun q2 dz C => ?_)
  refine j_putF (ci := 1) (ws' := [(h0, .inr (1, [.int (zI 0), .int (zI 0), .ref q1, .ref q2, .null, .null, .null])), (q1, .inl (d, 3, .inl (zF (fun _ => 0)))), (q2, .inl (dz, 8, .inl (zF (fun _ => 0))))]) C in_X2 tyX2 tyX2_ok nmX2 0 rfl rfl 3 (by decide) q183 rfl rfl hin rfl rfl rfl (Nat.le_of_ble_eq_true rfl) dX2_init_16 rfl ?_
  refine j_aload_n C dX2_init_19 0 rfl ?_
  refine j_bipush C dX2_init_20 (by decide +kernel) ?_
  refine j_newaI C 0 rfl q73 8 rfl (by decide) (by decide) dX2_init_22 (fun q3 => ?_)
  refine j_putF (ci := 1) (ws' := [(h0, .inr (1, [.int (zI 0), .int (zI 0), .ref q1, .ref q2, .ref q3, .null, .null])), (q1, .inl (d, 3, .inl (zF (fun _ => 0)))), (q2, .inl (dz, 8, .inl (zF (fun _ => 0)))), (q3, .inl (d, 8, .inl (zF (fun _ => 0))))]) C in_X2 tyX2 tyX2_ok nmX2 0 rfl rfl 4 (by decide) q184 rfl rfl hin rfl rfl rfl (Nat.le_of_ble_eq_true rfl) dX2_init_24 rfl ?_
  refine j_aload_n C dX2_init_27 0 rfl ?_
  refine j_bipush C dX2_init_28 (by decide +kernel) ?_
  refine j_newaI C 0 rfl q73 8 rfl (by decide) (by decide) dX2_init_30 (fun q4 => ?_)
  refine j_putF (ci := 1) (ws' := [(h0, .inr (1, [.int (zI 0), .int (zI 0), .ref q1, .ref q2, .ref q3, .ref q4, .null])), (q1, .inl (d, 3, .inl (zF (fun _ => 0)))), (q2, .inl (dz, 8, .inl (zF (fun _ => 0)))), (q3, .inl (d, 8, .inl (zF (fun _ => 0)))), (q4, .inl (d, 8, .inl (zF (fun _ => 0))))]) C in_X2 tyX2 tyX2_ok nmX2 0 rfl rfl 5 (by decide) q185 rfl rfl hin rfl rfl rfl (Nat.le_of_ble_eq_true rfl) dX2_init_32 rfl ?_
  refine j_aload_n C dX2_init_35 0 rfl ?_
  refine j_iconst C dX2_init_36 ?_
  refine j_newaI C 0 rfl q73 3 rfl (by decide) (by decide) dX2_init_37 (fun q5 => ?_)
  refine j_putF (ci := 1) (ws' := [(h0, .inr (1, [.int (zI 0), .int (zI 0), .ref q1, .ref q2, .ref q3, .ref q4, .ref q5])), (q1, .inl (d, 3, .inl (zF (fun _ => 0)))), (q2, .inl (dz, 8, .inl (zF (fun _ => 0)))), (q3, .inl (d, 8, .inl (zF (fun _ => 0)))), (q4, .inl (d, 8, .inl (zF (fun _ => 0)))), (q5, .inl (d, 3, .inl (zF (fun _ => 0))))]) C in_X2 tyX2 tyX2_ok nmX2 0 rfl rfl 6 (by decide) q186 rfl rfl hin rfl rfl rfl (Nat.le_of_ble_eq_true rfl) dX2_init_39 rfl ?_
  have h88 : JJ k 5 30 [(h0, .inr (1, [.int (zI ((cm p1 : Nat) : Int)), .int (zI 0), .ref q1, .ref q2, .ref q3, .ref q4, .ref q5])), (q1, .inl (d, 3, .inl (zF (fun _ => 0)))), (q2, .inl (dz, 8, .inl (zF (fun _ => 0)))), (q3, .inl (d, 8, .inl (zF (fun _ => 0)))), (q4, .inl (d, 8, .inl (zF (fun _ => 0)))), (q5, .inl (d, 3, .inl (zF (fun _ => 0))))] 88 [(0, .ref h0), (1, .int (zI p1)), (2, .int (zI p2))] [.int (zI (cd p2)), .ref h0] := by
    refine j_put (ci := 1) (ws' := [(h0, .inr (1, [.int (zI ((cm p1 : Nat) : Int)), .int (zI (cd p2)), .ref q1, .ref q2, .ref q3, .ref q4, .ref q5])), (q1, .inl (d, 3, .inl (zF (fun _ => 0)))), (q2, .inl (dz, 8, .inl (zF (fun _ => 0)))), (q3, .inl (d, 8, .inl (zF (fun _ => 0)))), (q4, .inl (d, 8, .inl (zF (fun _ => 0)))), (q5, .inl (d, 3, .inl (zF (fun _ => 0))))]) C in_X2 tyX2 tyX2_ok nmX2 0 rfl rfl 1 (by decide) q181 rfl rfl rfl rfl (Nat.le_of_ble_eq_true rfl) dX2_init_88 rfl ?_
    exact j_cret C hret dX2_init_91 ⟨dz, fun i => ([h0, q1, q2, q3, q4, q5] : List Nat).getD i 0, rfl, rfl, rfl⟩
  have h65 : JJ k 5 30 [(h0, .inr (1, [.int (zI ((cm p1 : Nat) : Int)), .int (zI 0), .ref q1, .ref q2, .ref q3, .ref q4, .ref q5])), (q1, .inl (d, 3, .inl (zF (fun _ => 0)))), (q2, .inl (dz, 8, .inl (zF (fun _ => 0)))), (q3, .inl (d, 8, .inl (zF (fun _ => 0)))), (q4, .inl (d, 8, .inl (zF (fun _ => 0)))), (q5, .inl (d, 3, .inl (zF (fun _ => 0))))] 65 [(0, .ref h0), (1, .int (zI p1)), (2, .int (zI p2))] [] := by
    refine j_aload_n C dX2_init_65 0 rfl ?_
    refine j_iload_n C dX2_init_66 2 rfl ?_
    refine j_if_ge (tgt := 74) C dX2_init_67 (by decide) (by omega) (fun b1 => ?_) (fun b1 => ?_)
    · refine j_iload_n C dX2_init_74 2 rfl ?_
      refine j_sipush C dX2_init_75 (by decide +kernel) ?_
      refine j_icmp_le (tgt := 87) C dX2_init_78 (by decide) (by omega) (by omega) (fun b2 => ?_) (fun b2 => ?_)
      · refine j_iload_n C dX2_init_87 2 rfl ?_
        rw [show cd p2 = p2 from by unfold cd; rw [if_neg (by omega), if_neg (by omega)]] at h88
        exact h88
      · refine j_sipush C dX2_init_81 (by decide +kernel) ?_
        refine j_goto (tgt := 88) C dX2_init_84 (by decide) ?_
        rw [show cd p2 = 300 from by unfold cd; rw [if_neg (by omega), if_pos (by omega)]] at h88
        exact h88
    · refine j_iconst C dX2_init_70 ?_
      refine j_goto (tgt := 88) C dX2_init_71 (by decide) ?_
      rw [show cd p2 = 0 from by unfold cd; rw [if_pos (by omega)]] at h88
      exact h88
  have h62 : JJ k 5 30 [(h0, .inr (1, [.int (zI 0), .int (zI 0), .ref q1, .ref q2, .ref q3, .ref q4, .ref q5])), (q1, .inl (d, 3, .inl (zF (fun _ => 0)))), (q2, .inl (dz, 8, .inl (zF (fun _ => 0)))), (q3, .inl (d, 8, .inl (zF (fun _ => 0)))), (q4, .inl (d, 8, .inl (zF (fun _ => 0)))), (q5, .inl (d, 3, .inl (zF (fun _ => 0))))] 62 [(0, .ref h0), (1, .int (zI p1)), (2, .int (zI p2))] [.int (zI ((cm p1 : Nat) : Int)), .ref h0] := by
    refine j_put (ci := 1) (ws' := [(h0, .inr (1, [.int (zI ((cm p1 : Nat) : Int)), .int (zI 0), .ref q1, .ref q2, .ref q3, .ref q4, .ref q5])), (q1, .inl (d, 3, .inl (zF (fun _ => 0)))), (q2, .inl (dz, 8, .inl (zF (fun _ => 0)))), (q3, .inl (d, 8, .inl (zF (fun _ => 0)))), (q4, .inl (d, 8, .inl (zF (fun _ => 0)))), (q5, .inl (d, 3, .inl (zF (fun _ => 0))))]) C in_X2 tyX2 tyX2_ok nmX2 0 rfl rfl 0 (by decide) q180 rfl rfl rfl rfl (Nat.le_of_ble_eq_true rfl) dX2_init_62 rfl ?_
    exact h65
  refine j_aload_n C dX2_init_42 0 rfl ?_
  refine j_iload_n C dX2_init_43 1 rfl ?_
  refine j_iconst C dX2_init_44 ?_
  refine j_icmp_ge (tgt := 52) C dX2_init_45 (by decide) (by omega) (by omega) (fun b1 => ?_) (fun b1 => ?_)
  · refine j_iload_n C dX2_init_52 1 rfl ?_
    refine j_iconst C dX2_init_53 ?_
    refine j_icmp_le (tgt := 61) C dX2_init_54 (by decide) (by omega) (by omega) (fun b2 => ?_) (fun b2 => ?_)
    · refine j_iload_n C dX2_init_61 1 rfl ?_
      rw [show ((cm p1 : Nat) : Int) = p1 from by unfold cm; rw [if_neg (by omega), if_neg (by omega)]; omega] at h62
      exact h62
    · refine j_iconst C dX2_init_57 ?_
      refine j_goto (tgt := 62) C dX2_init_58 (by decide) ?_
      rw [show ((cm p1 : Nat) : Int) = 3 from by unfold cm; rw [if_neg (by omega), if_pos (by omega)]; rfl] at h62
      exact h62
  · refine j_iconst C dX2_init_48 ?_
    refine j_goto (tgt := 62) C dX2_init_49 (by decide) ?_
    rw [show ((cm p1 : Nat) : Int) = 1 from by unfold cm; rw [if_pos (by omega)]; rfl] at h62
    exact h62
end
section
/-! THE PLAIN LAW, call by call: the class's answer is the model's, and what ties the two holds again -/
def LI (mc : Nat) (R XL Hd ML : Nat → Int) (kn be : Int) (P : Nat → Int) : Prop :=
  (∀ i, i < 3 → 0 ≤ R i ∧ R i ≤ 60) ∧ Hok Hd ML ∧ XL = ef Hd ML ∧ (kn = 0 ∨ (kn = 1 ∧ Chosen mc R XL be P))
theorem li_L {mc : Nat} {R XL Hd ML P : Nat → Int} {kn be : Int} (h : LI mc R XL Hd ML kn be P) : ∀ i, i < 9 → 0 ≤ XL i ∧ XL i ≤ 60 := fun i _ => by
  rw [h.2.2.1]
  exact ef_bd h.2.1 i
theorem li_8 {mc : Nat} {R XL Hd ML P : Nat → Int} {kn be : Int} (h : LI mc R XL Hd ML kn be P) : XL 8 = 0 := by
  rw [h.2.2.1]
  exact if_neg (fun q => by omega)
theorem li_0 {mc : Nat} : LI mc (fun _ => 0) (fun _ => 0) (fun _ => 0) (fun _ => 0) 0 0 (fun _ => 0) := by
  refine ⟨fun i _ => by show (0 : Int) ≤ 0 ∧ (0 : Int) ≤ 60; omega, fun i _ => ⟨Or.inl rfl, by show (0 : Int) ≤ 0 ∧ (0 : Int) ≤ 60; omega, fun (q : (0 : Int) = 1) => by omega⟩, ?_, Or.inl rfl⟩
  funext j
  unfold ef
  split <;> rfl
theorem ef_put {Hd ML : Nat → Int} {n : Nat} {w : Int} (hn : n < 8) : zU (ef Hd ML) n w = ef (zU Hd n 1) (zU ML n w) := by
  funext j
  by_cases e : j = n
  · subst e
    rw [zU_s]
    unfold ef
    rw [if_pos ⟨hn, zU_s⟩, zU_s]
  · rw [zU_n e]
    unfold ef
    rw [zU_n e, zU_n e]
theorem ef_del {Hd ML : Nat → Int} {n : Nat} : zU (ef Hd ML) n 0 = ef (zU Hd n 0) ML := by
  funext j
  by_cases e : j = n
  · subst e
    rw [zU_s]
    unfold ef
    rw [if_neg (fun q => by have := q.2; rw [zU_s] at this; omega)]
  · rw [zU_n e]
    unfold ef
    rw [zU_n e]
theorem hok_put {Hd ML : Nat → Int} {n : Nat} {w : Int} (h : Hok Hd ML) (hw : 1 ≤ w ∧ w ≤ 60) : Hok (zU Hd n 1) (zU ML n w) := by
  intro i hi
  by_cases e : i = n
  · subst e
    rw [zU_s, zU_s]
    exact ⟨Or.inr rfl, by omega, fun _ => by omega⟩
  · rw [zU_n e, zU_n e]
    exact h i hi
theorem hok_del {Hd ML : Nat → Int} {n : Nat} (h : Hok Hd ML) : Hok (zU Hd n 0) ML := by
  intro i hi
  have h0 := h i hi
  by_cases e : i = n
  · subst e
    rw [zU_s]
    exact ⟨Or.inl rfl, h0.2.1, fun q => by omega⟩
  · rw [zU_n e]
    exact h0
/-- a length is 0 just where no job is held -/
theorem li_z {mc : Nat} {R XL Hd ML P : Nat → Int} {kn be : Int} (h : LI mc R XL Hd ML kn be P) {n : Nat} (hn : n < 8) : (XL n ≠ 0 ↔ Hd n = 1) ∧ (0 < XL n ↔ Hd n = 1) := by
  have h1 := ef_pos h.2.1 hn
  have h2 := (li_L h n (by omega)).1
  rw [← h.2.2.1] at h1
  exact ⟨⟨fun q => h1.mp (by omega), fun q => by have := h1.mpr q; omega⟩, h1⟩
theorem st_offer {mc : Nat} {dl : Int} {R XL XL' Hd Hd' ML ML' P : Nat → Int} {kn kn' be w v v' : Int} (h : LI mc R XL Hd ML kn be P) (hx : OfferQ mc dl kn R XL w v kn' XL') (hy : YOfferQ mc dl R Hd ML w v' Hd' ML') : v = v' ∧ LI mc R XL' Hd' ML' kn' be P := by
  have hz := fun n hn => (li_z h (n := n) hn).1
  have hxl := h.2.2.1
  rcases hx with ⟨a1, rfl, rfl, rfl⟩ | ⟨a1, a2, rfl, rfl, rfl⟩ | ⟨a1, n, a2, a3, a4, a5⟩
  · rcases hy with ⟨b1, rfl, rfl, rfl⟩ | ⟨b1, -⟩ | ⟨b1, -⟩ | ⟨b1, -⟩
    · exact ⟨rfl, h⟩
    · exact absurd b1 a1
    · exact absurd b1 a1
    · exact absurd b1 a1
  · rcases hy with ⟨b1, -⟩ | ⟨b1, b2, rfl, rfl, rfl⟩ | ⟨b1, b2, -⟩ | ⟨b1, b2, m, b3, b4, -⟩
    · exact absurd a1 b1
    · exact ⟨rfl, h⟩
    · exact absurd (fun i hi => (hz i hi).mp (a2 i hi)) b2
    · have := (hz m b3).mp (a2 m b3)
      omega
  · have hn0 : Hd n ≠ 1 := fun q => (hz n a2).mpr q a3
    rcases hy with ⟨b1, -⟩ | ⟨b1, b2, -⟩ | ⟨b1, b2, b3, rfl, rfl, rfl⟩ | ⟨b1, b2, m, b3, b4, b5, rfl, rfl, rfl⟩
    · exact absurd a1 b1
    · exact absurd (b2 n a2) hn0
    · rcases a5 with ⟨c1, rfl, rfl, rfl⟩ | ⟨c1, -⟩
      · exact ⟨rfl, h⟩
      · rw [hxl] at c1
        exact absurd c1 b3
    · rcases a5 with ⟨c1, -⟩ | ⟨c1, rfl, rfl, rfl⟩
      · rw [hxl] at c1
        exact absurd b2 c1
      · have e : n = m := by
          rcases Nat.lt_trichotomy n m with q | q | q
          · exact absurd (b5 n q) hn0
          · exact q
          · have := (hz m b3).mp (a4 m q)
            omega
        subst e
        exact ⟨rfl, h.1, hok_put h.2.1 a1, by rw [hxl]; exact ef_put a2, Or.inl rfl⟩
theorem st_withdraw {mc : Nat} {R XL XL' Hd Hd' ML P : Nat → Int} {kn kn' be j v v' : Int} (h : LI mc R XL Hd ML kn be P) (hx : ((¬ ∃ n : Nat, n < 8 ∧ j = n ∧ 0 < XL n) ∧ v = -2 ∧ kn' = kn ∧ XL' = XL) ∨ ∃ n : Nat, n < 8 ∧ j = n ∧ 0 < XL n ∧ v = XL n ∧ kn' = 0 ∧ XL' = zU XL n 0) (hy : (¬ (∃ n : Nat, n < 8 ∧ j = n ∧ Hd n = 1) ∧ v' = -2 ∧ Hd' = Hd) ∨ ∃ n : Nat, n < 8 ∧ j = n ∧ Hd n = 1 ∧ v' = ML n ∧ Hd' = zU Hd n 0) : v = v' ∧ LI mc R XL' Hd' ML kn' be P := by
  have hz := fun n hn => (li_z h (n := n) hn).2
  have hxl := h.2.2.1
  rcases hx with ⟨a1, rfl, rfl, rfl⟩ | ⟨n, a1, a2, a3, rfl, rfl, rfl⟩
  · rcases hy with ⟨b1, rfl, rfl⟩ | ⟨m, b1, b2, b3, -⟩
    · exact ⟨rfl, h⟩
    · exact absurd ⟨m, b1, b2, (hz m b1).mpr b3⟩ a1
  · rcases hy with ⟨b1, -⟩ | ⟨m, b1, b2, b3, rfl, rfl⟩
    · exact absurd ⟨n, a1, a2, (hz n a1).mp a3⟩ b1
    · have e : n = m := by omega
      subst e
      exact ⟨by rw [hxl]; exact ef_1 a1 b3, h.1, hok_del h.2.1, by rw [hxl]; exact ef_del, Or.inl rfl⟩
theorem clamp_bd (t : Int) : 0 ≤ clamp60 t ∧ clamp60 t ≤ 60 := by
  unfold clamp60
  split
  · omega
  · split <;> omega
theorem st_ready {mc : Nat} {R R1 R2 XL Hd ML P : Nat → Int} {kn kn' be j t v v' : Int} (h : LI mc R XL Hd ML kn be P) (hx : (¬ (0 ≤ j ∧ j < mc) ∧ v = -2 ∧ kn' = kn ∧ R1 = R) ∨ ∃ n : Nat, n < mc ∧ j = n ∧ v = R n ∧ kn' = 0 ∧ R1 = zU R n (clamp60 t)) (hy : (¬ (0 ≤ j ∧ j < mc) ∧ v' = -2 ∧ R2 = R) ∨ ∃ n : Nat, n < mc ∧ j = n ∧ v' = R n ∧ R2 = zU R n (clamp60 t)) : v = v' ∧ R1 = R2 ∧ LI mc R1 XL Hd ML kn' be P := by
  rcases hx with ⟨a1, rfl, rfl, rfl⟩ | ⟨n, a1, a2, rfl, rfl, rfl⟩
  · rcases hy with ⟨b1, rfl, rfl⟩ | ⟨m, b1, b2, -⟩
    · exact ⟨rfl, rfl, h⟩
    · omega
  · rcases hy with ⟨b1, -⟩ | ⟨m, b1, b2, rfl, rfl⟩
    · omega
    · have e : n = m := by omega
      subst e
      refine ⟨rfl, rfl, fun i hi => ?_, h.2.1, h.2.2.1, Or.inl rfl⟩
      by_cases e : i = n
      · subst e; rw [zU_s]; exact clamp_bd t
      · rw [zU_n e]; exact h.1 i hi
theorem li_ch {mc : Nat} {R XL Hd ML P P' : Nat → Int} {kn be be' : Int} (h : LI mc R XL Hd ML kn be P) (hc : Chosen mc R XL be' P') : LI mc R XL Hd ML 1 be' P' := ⟨h.1, h.2.1, h.2.2.1, Or.inr ⟨rfl, hc⟩⟩
theorem st_end {mc : Nat} {R XL Hd ML P P' G : Nat → Int} {kn be v v' : Int} (h : LI mc R XL Hd ML kn be P) (hx : Chosen mc R XL v P') (hy : Chosen mc R (ef Hd ML) v' G) : v = v' ∧ LI mc R XL Hd ML 1 v P' := by
  refine ⟨?_, li_ch h hx⟩
  rw [← h.2.2.1] at hy
  exact (chosen_uniq hx hy).1
theorem same_ld {mc : Nat} {R ℓ P P' : Nat → Int} {b b' : Int} (hl : ∀ j, j < 8 → 0 ≤ ℓ j) (h : Chosen mc R ℓ b P) (h' : Chosen mc R ℓ b' P') (m : Nat) : ld R ℓ P m 8 = ld R ℓ P' m 8 := ld_congr hl (chosen_uniq h h').2
end
section
set_option maxRecDepth 100000
/-! THE CLAIM OUT OF ONE WALK OF THE LAW'S BODY. Your part is whole_start (and what it stands on); all else here is the same for every law, but numbers. -/
def R_law : String := "BatchAdmissionLaw"
def lw_P (b : Addr) (xs : List Int32) (args : Array Value) (s : State) : Prop := args = #[.ref b] ∧ s.IntsAt b xs ∧ xs.length ≤ 194 ∧ (Jvm.Cond.and given_1 narrow_1).before args s = true
def lw_Q (_ : Array Value) (s : State) (o : Outcome) (t : State) : Prop := o = .returned (some (.int 1)) ∧ Framed s o t [] 600000 7290000
def lw_Z (below : List Frame) (a : Array Value) (s : State) : State → Prop := fun t => ∃ o, t.status = .running ∧ Ended t below o ∧ lw_Q a s o t
/-- the law's own end, with 1 on the stack, nothing written that was there before, its room as the claim has it -/
theorem lw_ret {p : Program} {l : Launch} {e : Env} {s : State} {m : MethodId} {below : List Frame} {meth : Method} {c : Code} {b : Nat} (hx : p.tables.exec = Jvm.exec) (hb : c.code = code) (hr : meth.sig.returnType = ret) (hlocks : meth.locks = false) {pc : Nat} {H : Heap} {ls : Array Slot} (hdg : decode code pc = .ok (.ireturn, 1)) : W p l e room_1 s m #[Value.ref b] below meth c H [] 600000 7290000 (lw_Z below #[Value.ref b] s) (F0 m pc ls [.int 1]) := by
  intro T hT X
  obtain ⟨fs, hret, hrun, hended, hW, hframe⟩ := X.leave (v := some (.int 1)) (hlocks := hlocks) (fun h => by rw [hr] at h; cases h)
  have hmeth' : T.vm.method? m = some meth := X.method'
  refine ⟨T.setFrames fs, ?_, .returned (some (.int 1)), hrun, hended, rfl, ⟨_, rfl⟩, hW, hframe⟩
  jvm_step X.here [X.here.top, hx, hb, hdg, hmeth', hr, ret, narrow_b1]
  (try refine ⟨rfl, ?_⟩); (try refine ⟨rfl, ?_⟩)
  first | (intro acts; rw [hret _ acts rfl rfl rfl]) | rw [hret _ _ rfl rfl rfl]
  exact Steps.refl _
/-- what holds at the law's entry: the machine, the code, the tables' words (any of lw_tbl by 'hts w (by decide +kernel)'), the script of L ints xs at the cell b, what the Statement gives of the start (any of its parts by flat_of_before) -/
def lw_At (p : Program) (s : State) (m : MethodId) (meth : Method) (c : Code) (b L : Nat) (xs : Nat → Int32) : Prop :=
  p.tables.exec = Jvm.exec ∧ c.code = code ∧ meth.sig.returnType = ret ∧ c.maxLocals = 4 ∧ s.vm.findClass R_law = some m.cls ∧ (∀ w ∈ lw_tbl, w.before #[Value.ref b] s = true) ∧ va_X b L xs s s.heap ∧ b < s.heap.size ∧ meth.locks = false ∧ (Jvm.Cond.and given_1 narrow_1).before #[Value.ref b] s = true
/-- both answers alike: the branch is taken -/
theorem j_same {k : JK} {cc : ByteArray} {nL : Nat} {own : String} {tys : List (ClassId × FieldType)} {rm : Room} {cs sl pc : Nat} {ws : va_W} {lv : List (Nat × Value)} {st : List Value} (C : jC k cc nL own tys rm) {v : Int} {off : Int} {tgt : Nat} (hd : decode cc pc = .ok (.if_icmp .eq off, 3)) (ht : (pc : Int) + off = (tgt : Int)) (kk : JJ k cs sl ws tgt lv st) : JJ k cs sl ws pc lv (.int (zI v) :: .int (zI v) :: st) :=
  fun ls H locs h hP hD hS => lv_icmp_eq C.1 C.2.1 hd ht (fun _ => kk ls H locs h hP hD hS) (fun e => absurd rfl e)
/-- the law's end, with 15 cells of 111 slots new -/
def jE (k : JK) : Prop := ∀ (pc : Nat) (ls : Array Slot) (H : Heap) (locs : List Loc), decode code pc = .ok (.ireturn, 1) → va_S (kA k) (ks k).heap H locs →
  W (kp k) (kl k) (ke k) (kr k) (ks k) (km k) (ka k) (kb k) (kt k) (kc k) H locs 15 111 (kq k) (F0 (km k) pc ls [.int 1])
theorem j_end {k : JK} {pc : Nat} {ws : va_W} {lv : List (Nat × Value)} (h : jE k) (hd : decode code pc = .ok (.ireturn, 1)) : JJ k 15 111 ws pc lv [.int (zI 1)] := by
  rw [← zI_1]
  exact fun ls H locs _ _ _ hS => h pc ls H locs hd hS
theorem cell_rng (Ln : Nat) (xs : Nat → Int32) (n : Nat) : -2147483648 ≤ cellI Ln xs n ∧ cellI Ln xs n < 2147483648 := by
  unfold cellI
  split
  · exact zI_rng _
  · omega
/-! the other calls' plain laws -/
theorem ob_machineOf {d : ClassId} {a : Nat → Nat} {mc : Nat} {dl : Int} {R XL Hd ML P : Nat → Int} {kn be j v : Int} {u : va_W} (h : LI mc R XL Hd ML kn be P) (hq : (¬ (∃ n : Nat, n < 8 ∧ j = n ∧ 0 < XL n) ∧ v = -2 ∧ XS d a mc dl kn be R XL P u) ∨ ∃ n : Nat, n < 8 ∧ j = n ∧ 0 < XL n ∧ ∃ (be' : Int) (P' : Nat → Int), XS d a mc dl 1 be' R XL P' u ∧ Chosen mc R XL be' P' ∧ v = P' n) :
    ∃ (kn' be' : Int) (P' : Nat → Int), XS d a mc dl kn' be' R XL P' u ∧ LI mc R XL Hd ML kn' be' P' ∧ ((¬ (∃ n : Nat, n < 8 ∧ j = n ∧ 0 < XL n) ∧ v = -2) ∨ ∃ n : Nat, n < 8 ∧ j = n ∧ 0 < XL n ∧ Chosen mc R XL be' P' ∧ v = P' n) := by
  rcases hq with ⟨h1, h2, h3⟩ | ⟨n, h1, h2, h3, be', P', h4, h5, h6⟩
  · exact ⟨kn, be, P, h3, h, Or.inl ⟨h1, h2⟩⟩
  · exact ⟨1, be', P', h4, li_ch h h5, Or.inr ⟨n, h1, h2, h3, h5, h6⟩⟩
theorem st_machineOf {mc : Nat} {R XL Hd ML P : Nat → Int} {kn be j v v' : Int} (h : LI mc R XL Hd ML kn be P) (hx : (¬ (∃ n : Nat, n < 8 ∧ j = n ∧ 0 < XL n) ∧ v = -2) ∨ ∃ n : Nat, n < 8 ∧ j = n ∧ 0 < XL n ∧ Chosen mc R XL be P ∧ v = P n) (hy : (¬ (∃ n : Nat, n < 8 ∧ j = n ∧ Hd n = 1) ∧ v' = -2) ∨ ∃ n : Nat, n < 8 ∧ j = n ∧ Hd n = 1 ∧ ∃ (b : Int) (P : Nat → Int), Chosen mc R (ef Hd ML) b P ∧ v' = P n) : v = v' := by
  have hz := fun n hn => (li_z h (n := n) hn).2
  rcases hx with ⟨a1, rfl⟩ | ⟨n, a1, a2, a3, a4, rfl⟩
  · rcases hy with ⟨b1, rfl⟩ | ⟨m, b1, b2, b3, -⟩
    · rfl
    · exact absurd ⟨m, b1, b2, (hz m b1).mpr b3⟩ a1
  · rcases hy with ⟨b1, -⟩ | ⟨m, b1, b2, b3, b', P', b4, rfl⟩
    · exact absurd ⟨n, a1, a2, (hz n a1).mp a3⟩ b1
    · have e : n = m := by omega
      subst e
      rw [← h.2.2.1] at b4
      exact (chosen_uniq a4 b4).2 n a1 a3
theorem ob_endOf {d : ClassId} {a : Nat → Nat} {mc : Nat} {dl : Int} {R XL Hd ML P : Nat → Int} {kn be j v : Int} {u : va_W} (h : LI mc R XL Hd ML kn be P) (hq : (¬ (0 ≤ j ∧ j < mc) ∧ v = -2 ∧ XS d a mc dl kn be R XL P u) ∨ ∃ n : Nat, n < mc ∧ j = n ∧ ∃ (be' : Int) (P' : Nat → Int), XS d a mc dl 1 be' R XL P' u ∧ Chosen mc R XL be' P' ∧ v = ld R XL P' n 8) :
    ∃ (kn' be' : Int) (P' : Nat → Int), XS d a mc dl kn' be' R XL P' u ∧ LI mc R XL Hd ML kn' be' P' ∧ ((¬ (0 ≤ j ∧ j < mc) ∧ v = -2) ∨ ∃ n : Nat, n < mc ∧ j = n ∧ Chosen mc R XL be' P' ∧ v = ld R XL P' n 8) := by
  rcases hq with ⟨h1, h2, h3⟩ | ⟨n, h1, h2, be', P', h4, h5, h6⟩
  · exact ⟨kn, be, P, h3, h, Or.inl ⟨h1, h2⟩⟩
  · exact ⟨1, be', P', h4, li_ch h h5, Or.inr ⟨n, h1, h2, h5, h6⟩⟩
theorem st_endOf {mc : Nat} {R XL Hd ML P : Nat → Int} {kn be j v v' : Int} (h : LI mc R XL Hd ML kn be P) (hx : (¬ (0 ≤ j ∧ j < mc) ∧ v = -2) ∨ ∃ n : Nat, n < mc ∧ j = n ∧ Chosen mc R XL be P ∧ v = ld R XL P n 8) (hy : (¬ (0 ≤ j ∧ j < mc) ∧ v' = -2) ∨ ∃ n : Nat, n < mc ∧ j = n ∧ ∃ (b : Int) (P : Nat → Int), Chosen mc R (ef Hd ML) b P ∧ v' = ld R (ef Hd ML) P n 8) : v = v' := by
  rcases hx with ⟨a1, rfl⟩ | ⟨n, a1, a2, a4, rfl⟩
  · rcases hy with ⟨b1, rfl⟩ | ⟨m, b1, b2, -⟩
    · rfl
    · omega
  · rcases hy with ⟨b1, -⟩ | ⟨m, b1, b2, b', P', b4, rfl⟩
    · omega
    · have e : n = m := by omega
      subst e
      rw [← h.2.2.1] at b4 ⊢
      exact same_ld (fun j hj => (li_L h j (by omega)).1) a4 b4 n
end
section
/-! the eight calls of the law: from the call to pc 264, what ties class and model holds again -/
set_option maxRecDepth 100000
def LK (k : JK) (d dz : ClassId) (a b : Nat → Nat) (mc : Nat) (dl : Int) (sb i pc : Nat) : Prop := ∀ (fr kn be : Int) (R L F O Lf At E P Hd ML G E2 : Nat → Int), LI mc R L Hd ML kn be P → JJ k 15 111 ((xw d a mc dl fr kn be R L F O Lf At E P) ++ (yw d dz b mc dl R Hd ML G E2)) pc [(0, .ref sb), (1, .ref (a 0)), (2, .ref (b 0)), (3, .int (zI ((i : Nat) : Int)))] []
section Cases
variable {k : JK} {d dz : ClassId} {a b : Nat → Nat} {mc : Nat} {dl : Int} {sb Ln i : Nat} {xs : Nat → Int32}
set_option maxHeartbeats 4000000 in
/-- case 0: offer -/
theorem law_0 (C : jC k code 4 "BatchAdmissionLaw" [(d, .int), (dz, .boolean)] room_1) (hX : jX k sb Ln xs) (hi : i + 2 < Ln) (hLn : Ln ≤ 194) (hmc1 : 1 ≤ mc) (hmc : mc ≤ 3) (hdl : 0 ≤ dl ∧ dl ≤ 300) (kk : LK k d dz a b mc dl sb i 264) : LK k d dz a b mc dl sb i 100 := by
  intro fr kn be R L F O Lf At E P Hd ML G E2 h
  refine j_aload_n C dL_law_100 1 rfl ?_
  refine j_aload_n C dL_law_101 0 rfl ?_
  refine j_iload_n C dL_law_102 3 rfl ?_
  refine j_iconst C dL_law_103 ?_
  refine j_iadd C dL_law_104 ?_
  refine j_sld C hX (i + 1) (by omega) (by omega) (by omega) dL_law_105 ?_
  refine j_callip (ci := 0) (n := 1) (wc := (xw d a mc dl fr kn be R L F O Lf At E P)) (wr := (yw d dz b mc dl R Hd ML G E2)) (tys' := [(d, .int)]) C [0, 1, 2, 3, 4, 5, 6, 7, 8] [9, 10, 11, 12, 13, 14] [0] rfl rfl rfl (by decide) (by decide) (by decide) rfl (m_offer _ _ _ (zI_rng _) hdl hmc1 hmc h.1 (li_L h) (li_8 h)) q74 q75 q76 q23 q77 (by decide +kernel) rfl rfl (by decide) rfl rfl (Nat.le_of_ble_eq_true rfl) dL_law_106 (fun v u hx => ?_)
  obtain ⟨kn', L', ⟨fr', F', O', Lf', At', E', rfl⟩, hx⟩ := hx
  refine j_aload_n C dL_law_109 2 rfl ?_
  refine j_aload_n C dL_law_110 0 rfl ?_
  refine j_iload_n C dL_law_111 3 rfl ?_
  refine j_iconst C dL_law_112 ?_
  refine j_iadd C dL_law_113 ?_
  refine j_sld C hX (i + 1) (by omega) (by omega) (by omega) dL_law_114 ?_
  refine j_callip (ci := 1) (n := 1) (wc := (yw d dz b mc dl R Hd ML G E2)) (wr := (xw d a mc dl fr' kn' be R L' F' O' Lf' At' E' P)) (tys' := [(d, .int), (dz, .boolean)]) C [0, 1, 2, 3, 4, 5] [6, 7, 8, 9, 10, 11, 12, 13, 14] [0, 1] rfl rfl rfl (by decide) (by decide) (by decide) rfl (y_offer _ _ _ (zI_rng _) hdl hmc1 hmc h.1 h.2.1) q203 q204 q205 q24 q206 (by decide +kernel) rfl rfl (by decide) rfl rfl (Nat.le_of_ble_eq_true rfl) dL_law_115 (fun v' u hy => ?_)
  obtain ⟨Hd', ML', ⟨G', E2', rfl⟩, hy⟩ := hy
  obtain ⟨e, h1⟩ := st_offer h hx hy
  subst e
  refine j_same (tgt := 264) C dL_law_118 (by decide) ?_
  exact kk _ _ _ _ _ _ _ _ _ _ _ _ _ _ _ h1
set_option maxHeartbeats 4000000 in
/-- case 1: withdraw -/
theorem law_1 (C : jC k code 4 "BatchAdmissionLaw" [(d, .int), (dz, .boolean)] room_1) (hX : jX k sb Ln xs) (hi : i + 2 < Ln) (hLn : Ln ≤ 194) (hmc1 : 1 ≤ mc) (hmc : mc ≤ 3) (hdl : 0 ≤ dl ∧ dl ≤ 300) (kk : LK k d dz a b mc dl sb i 264) : LK k d dz a b mc dl sb i 123 := by
  intro fr kn be R L F O Lf At E P Hd ML G E2 h
  refine j_aload_n C dL_law_123 1 rfl ?_
  refine j_aload_n C dL_law_124 0 rfl ?_
  refine j_iload_n C dL_law_125 3 rfl ?_
  refine j_iconst C dL_law_126 ?_
  refine j_iadd C dL_law_127 ?_
  refine j_sld C hX (i + 1) (by omega) (by omega) (by omega) dL_law_128 ?_
  refine j_callip (ci := 0) (n := 1) (wc := (xw d a mc dl fr kn be R L F O Lf At E P)) (wr := (yw d dz b mc dl R Hd ML G E2)) (tys' := [(d, .int)]) C [0, 1, 2, 3, 4, 5, 6, 7, 8] [9, 10, 11, 12, 13, 14] [0] rfl rfl rfl (by decide) (by decide) (by decide) rfl (m_withdraw _ _ _ (zI_rng _) (li_L h)) q115 q116 q117 q23 q118 (by decide +kernel) rfl rfl (by decide) rfl rfl (Nat.le_of_ble_eq_true rfl) dL_law_129 (fun v u hx => ?_)
  obtain ⟨kn', L', ⟨fr', F', O', Lf', At', E', rfl⟩, hx⟩ := hx
  refine j_aload_n C dL_law_132 2 rfl ?_
  refine j_aload_n C dL_law_133 0 rfl ?_
  refine j_iload_n C dL_law_134 3 rfl ?_
  refine j_iconst C dL_law_135 ?_
  refine j_iadd C dL_law_136 ?_
  refine j_sld C hX (i + 1) (by omega) (by omega) (by omega) dL_law_137 ?_
  refine j_callip (ci := 1) (n := 1) (wc := (yw d dz b mc dl R Hd ML G E2)) (wr := (xw d a mc dl fr' kn' be R L' F' O' Lf' At' E' P)) (tys' := [(d, .int), (dz, .boolean)]) C [0, 1, 2, 3, 4, 5] [6, 7, 8, 9, 10, 11, 12, 13, 14] [0, 1] rfl rfl rfl (by decide) (by decide) (by decide) rfl (y_withdraw _ _ _ (zI_rng _) h.2.1) q230 q231 q232 q24 q233 (by decide +kernel) rfl rfl (by decide) rfl rfl (Nat.le_of_ble_eq_true rfl) dL_law_138 (fun v' u hy => ?_)
  obtain ⟨Hd', ⟨G', E2', rfl⟩, hy⟩ := hy
  obtain ⟨e, h1⟩ := st_withdraw h hx hy
  subst e
  refine j_same (tgt := 264) C dL_law_141 (by decide) ?_
  exact kk _ _ _ _ _ _ _ _ _ _ _ _ _ _ _ h1
set_option maxHeartbeats 4000000 in
/-- case 2: ready -/
theorem law_2 (C : jC k code 4 "BatchAdmissionLaw" [(d, .int), (dz, .boolean)] room_1) (hX : jX k sb Ln xs) (hi : i + 2 < Ln) (hLn : Ln ≤ 194) (hmc1 : 1 ≤ mc) (hmc : mc ≤ 3) (hdl : 0 ≤ dl ∧ dl ≤ 300) (kk : LK k d dz a b mc dl sb i 264) : LK k d dz a b mc dl sb i 146 := by
  intro fr kn be R L F O Lf At E P Hd ML G E2 h
  refine j_aload_n C dL_law_146 1 rfl ?_
  refine j_aload_n C dL_law_147 0 rfl ?_
  refine j_iload_n C dL_law_148 3 rfl ?_
  refine j_iconst C dL_law_149 ?_
  refine j_iadd C dL_law_150 ?_
  refine j_sld C hX (i + 1) (by omega) (by omega) (by omega) dL_law_151 ?_
  refine j_aload_n C dL_law_152 0 rfl ?_
  refine j_iload_n C dL_law_153 3 rfl ?_
  refine j_iconst C dL_law_154 ?_
  refine j_iadd C dL_law_155 ?_
  refine j_sld C hX (i + 2) (by omega) (by omega) (by omega) dL_law_156 ?_
  refine j_callip (ci := 0) (n := 2) (wc := (xw d a mc dl fr kn be R L F O Lf At E P)) (wr := (yw d dz b mc dl R Hd ML G E2)) (tys' := [(d, .int)]) C [0, 1, 2, 3, 4, 5, 6, 7, 8] [9, 10, 11, 12, 13, 14] [0] rfl rfl rfl (by decide) (by decide) (by decide) rfl (m_ready _ _ _ _ (zI_rng _) (zI_rng _) hmc) q123 q124 q125 q23 q126 (by decide +kernel) rfl rfl (by decide) rfl rfl (Nat.le_of_ble_eq_true rfl) dL_law_157 (fun v u hx => ?_)
  obtain ⟨kn', R', ⟨fr', F', O', Lf', At', E', rfl⟩, hx⟩ := hx
  refine j_aload_n C dL_law_160 2 rfl ?_
  refine j_aload_n C dL_law_161 0 rfl ?_
  refine j_iload_n C dL_law_162 3 rfl ?_
  refine j_iconst C dL_law_163 ?_
  refine j_iadd C dL_law_164 ?_
  refine j_sld C hX (i + 1) (by omega) (by omega) (by omega) dL_law_165 ?_
  refine j_aload_n C dL_law_166 0 rfl ?_
  refine j_iload_n C dL_law_167 3 rfl ?_
  refine j_iconst C dL_law_168 ?_
  refine j_iadd C dL_law_169 ?_
  refine j_sld C hX (i + 2) (by omega) (by omega) (by omega) dL_law_170 ?_
  refine j_callip (ci := 1) (n := 2) (wc := (yw d dz b mc dl R Hd ML G E2)) (wr := (xw d a mc dl fr' kn' be R' L F' O' Lf' At' E' P)) (tys' := [(d, .int), (dz, .boolean)]) C [0, 1, 2, 3, 4, 5] [6, 7, 8, 9, 10, 11, 12, 13, 14] [0, 1] rfl rfl rfl (by decide) (by decide) (by decide) rfl (y_ready _ _ _ _ (zI_rng _) (zI_rng _) hmc) q234 q235 q236 q24 q237 (by decide +kernel) rfl rfl (by decide) rfl rfl (Nat.le_of_ble_eq_true rfl) dL_law_171 (fun v' u hy => ?_)
  obtain ⟨R2, ⟨G', E2', rfl⟩, hy⟩ := hy
  obtain ⟨e, e2, h1⟩ := st_ready h hx hy
  subst e
  subst e2
  refine j_same (tgt := 264) C dL_law_174 (by decide) ?_
  exact kk _ _ _ _ _ _ _ _ _ _ _ _ _ _ _ h1
set_option maxHeartbeats 4000000 in
/-- case 3: end -/
theorem law_3 (C : jC k code 4 "BatchAdmissionLaw" [(d, .int), (dz, .boolean)] room_1) (hX : jX k sb Ln xs) (hi : i + 2 < Ln) (hLn : Ln ≤ 194) (hmc1 : 1 ≤ mc) (hmc : mc ≤ 3) (hdl : 0 ≤ dl ∧ dl ≤ 300) (kk : LK k d dz a b mc dl sb i 264) : LK k d dz a b mc dl sb i 179 := by
  intro fr kn be R L F O Lf At E P Hd ML G E2 h
  refine j_aload_n C dL_law_179 1 rfl ?_
  refine j_callip (ci := 0) (n := 0) (wc := (xw d a mc dl fr kn be R L F O Lf At E P)) (wr := (yw d dz b mc dl R Hd ML G E2)) (tys' := [(d, .int)]) C [0, 1, 2, 3, 4, 5, 6, 7, 8] [9, 10, 11, 12, 13, 14] [0] rfl rfl rfl (by decide) (by decide) (by decide) rfl (m_end _ _ h.2.2.2 hmc1 hmc h.1 (li_L h) (li_8 h)) q127 q128 q129 q23 q130 (by decide +kernel) rfl rfl (by decide) rfl rfl (Nat.le_of_ble_eq_true rfl) dL_law_180 (fun v u hx => ?_)
  obtain ⟨P', ⟨fr', F', O', Lf', At', E', rfl⟩, hx⟩ := hx
  refine j_aload_n C dL_law_183 2 rfl ?_
  refine j_callip (ci := 1) (n := 0) (wc := (yw d dz b mc dl R Hd ML G E2)) (wr := (xw d a mc dl fr' 1 v R L F' O' Lf' At' E' P')) (tys' := [(d, .int), (dz, .boolean)]) C [0, 1, 2, 3, 4, 5] [6, 7, 8, 9, 10, 11, 12, 13, 14] [0, 1] rfl rfl rfl (by decide) (by decide) (by decide) rfl (y_end _ _ hmc1 hmc h.1 h.2.1) q238 q239 q240 q24 q241 (by decide +kernel) rfl rfl (by decide) rfl rfl (Nat.le_of_ble_eq_true rfl) dL_law_184 (fun v' u hy => ?_)
  obtain ⟨G', E2', rfl, hy, -⟩ := hy
  obtain ⟨e, h1⟩ := st_end h hx hy
  subst e
  refine j_same (tgt := 264) C dL_law_187 (by decide) ?_
  exact kk _ _ _ _ _ _ _ _ _ _ _ _ _ _ _ h1
set_option maxHeartbeats 4000000 in
/-- case 4: machineOf -/
theorem law_4 (C : jC k code 4 "BatchAdmissionLaw" [(d, .int), (dz, .boolean)] room_1) (hX : jX k sb Ln xs) (hi : i + 2 < Ln) (hLn : Ln ≤ 194) (hmc1 : 1 ≤ mc) (hmc : mc ≤ 3) (hdl : 0 ≤ dl ∧ dl ≤ 300) (kk : LK k d dz a b mc dl sb i 264) : LK k d dz a b mc dl sb i 192 := by
  intro fr kn be R L F O Lf At E P Hd ML G E2 h
  refine j_aload_n C dL_law_192 1 rfl ?_
  refine j_aload_n C dL_law_193 0 rfl ?_
  refine j_iload_n C dL_law_194 3 rfl ?_
  refine j_iconst C dL_law_195 ?_
  refine j_iadd C dL_law_196 ?_
  refine j_sld C hX (i + 1) (by omega) (by omega) (by omega) dL_law_197 ?_
  refine j_callip (ci := 0) (n := 1) (wc := (xw d a mc dl fr kn be R L F O Lf At E P)) (wr := (yw d dz b mc dl R Hd ML G E2)) (tys' := [(d, .int)]) C [0, 1, 2, 3, 4, 5, 6, 7, 8] [9, 10, 11, 12, 13, 14] [0] rfl rfl rfl (by decide) (by decide) (by decide) rfl (m_machineOf _ _ _ (zI_rng _) h.2.2.2 hmc1 hmc h.1 (li_L h) (li_8 h)) q155 q156 q157 q23 q158 (by decide +kernel) rfl rfl (by decide) rfl rfl (Nat.le_of_ble_eq_true rfl) dL_law_198 (fun v u hx => ?_)
  obtain ⟨kn', be', P', ⟨fr', F', O', Lf', At', E', rfl⟩, h1, hx⟩ := ob_machineOf h hx
  refine j_aload_n C dL_law_201 2 rfl ?_
  refine j_aload_n C dL_law_202 0 rfl ?_
  refine j_iload_n C dL_law_203 3 rfl ?_
  refine j_iconst C dL_law_204 ?_
  refine j_iadd C dL_law_205 ?_
  refine j_sld C hX (i + 1) (by omega) (by omega) (by omega) dL_law_206 ?_
  refine j_callip (ci := 1) (n := 1) (wc := (yw d dz b mc dl R Hd ML G E2)) (wr := (xw d a mc dl fr' kn' be' R L F' O' Lf' At' E' P')) (tys' := [(d, .int), (dz, .boolean)]) C [0, 1, 2, 3, 4, 5] [6, 7, 8, 9, 10, 11, 12, 13, 14] [0, 1] rfl rfl rfl (by decide) (by decide) (by decide) rfl (y_machineOf _ _ _ (zI_rng _) hmc1 hmc h.1 h.2.1) q251 q252 q253 q24 q254 (by decide +kernel) rfl rfl (by decide) rfl rfl (Nat.le_of_ble_eq_true rfl) dL_law_207 (fun v' u hy => ?_)
  obtain ⟨⟨G', E2', rfl⟩, hy⟩ := hy
  have e := st_machineOf h1 hx hy
  subst e
  refine j_same (tgt := 264) C dL_law_210 (by decide) ?_
  exact kk _ _ _ _ _ _ _ _ _ _ _ _ _ _ _ h1
set_option maxHeartbeats 4000000 in
/-- case 5: endOf -/
theorem law_5 (C : jC k code 4 "BatchAdmissionLaw" [(d, .int), (dz, .boolean)] room_1) (hX : jX k sb Ln xs) (hi : i + 2 < Ln) (hLn : Ln ≤ 194) (hmc1 : 1 ≤ mc) (hmc : mc ≤ 3) (hdl : 0 ≤ dl ∧ dl ≤ 300) (kk : LK k d dz a b mc dl sb i 264) : LK k d dz a b mc dl sb i 215 := by
  intro fr kn be R L F O Lf At E P Hd ML G E2 h
  refine j_aload_n C dL_law_215 1 rfl ?_
  refine j_aload_n C dL_law_216 0 rfl ?_
  refine j_iload_n C dL_law_217 3 rfl ?_
  refine j_iconst C dL_law_218 ?_
  refine j_iadd C dL_law_219 ?_
  refine j_sld C hX (i + 1) (by omega) (by omega) (by omega) dL_law_220 ?_
  refine j_callip (ci := 0) (n := 1) (wc := (xw d a mc dl fr kn be R L F O Lf At E P)) (wr := (yw d dz b mc dl R Hd ML G E2)) (tys' := [(d, .int)]) C [0, 1, 2, 3, 4, 5, 6, 7, 8] [9, 10, 11, 12, 13, 14] [0] rfl rfl rfl (by decide) (by decide) (by decide) rfl (m_endOf _ _ _ (zI_rng _) h.2.2.2 hmc1 hmc h.1 (li_L h) (li_8 h)) q159 q160 q161 q23 q162 (by decide +kernel) rfl rfl (by decide) rfl rfl (Nat.le_of_ble_eq_true rfl) dL_law_221 (fun v u hx => ?_)
  obtain ⟨kn', be', P', ⟨fr', F', O', Lf', At', E', rfl⟩, h1, hx⟩ := ob_endOf h hx
  refine j_aload_n C dL_law_224 2 rfl ?_
  refine j_aload_n C dL_law_225 0 rfl ?_
  refine j_iload_n C dL_law_226 3 rfl ?_
  refine j_iconst C dL_law_227 ?_
  refine j_iadd C dL_law_228 ?_
  refine j_sld C hX (i + 1) (by omega) (by omega) (by omega) dL_law_229 ?_
  refine j_callip (ci := 1) (n := 1) (wc := (yw d dz b mc dl R Hd ML G E2)) (wr := (xw d a mc dl fr' kn' be' R L F' O' Lf' At' E' P')) (tys' := [(d, .int), (dz, .boolean)]) C [0, 1, 2, 3, 4, 5] [6, 7, 8, 9, 10, 11, 12, 13, 14] [0, 1] rfl rfl rfl (by decide) (by decide) (by decide) rfl (y_endOf _ _ _ (zI_rng _) hmc1 hmc h.1 h.2.1) q255 q256 q257 q24 q258 (by decide +kernel) rfl rfl (by decide) rfl rfl (Nat.le_of_ble_eq_true rfl) dL_law_230 (fun v' u hy => ?_)
  obtain ⟨⟨G', E2', rfl⟩, hy⟩ := hy
  have e := st_endOf h1 hx hy
  subst e
  refine j_same (tgt := 264) C dL_law_233 (by decide) ?_
  exact kk _ _ _ _ _ _ _ _ _ _ _ _ _ _ _ h1
set_option maxHeartbeats 4000000 in
/-- case 6: room -/
theorem law_6 (C : jC k code 4 "BatchAdmissionLaw" [(d, .int), (dz, .boolean)] room_1) (hX : jX k sb Ln xs) (hi : i + 2 < Ln) (hLn : Ln ≤ 194) (hmc1 : 1 ≤ mc) (hmc : mc ≤ 3) (hdl : 0 ≤ dl ∧ dl ≤ 300) (kk : LK k d dz a b mc dl sb i 264) : LK k d dz a b mc dl sb i 238 := by
  intro fr kn be R L F O Lf At E P Hd ML G E2 h
  refine j_aload_n C dL_law_238 1 rfl ?_
  refine j_callip (ci := 0) (n := 0) (wc := (xw d a mc dl fr kn be R L F O Lf At E P)) (wr := (yw d dz b mc dl R Hd ML G E2)) (tys' := [(d, .int)]) C [0, 1, 2, 3, 4, 5, 6, 7, 8] [9, 10, 11, 12, 13, 14] [0] rfl rfl rfl (by decide) (by decide) (by decide) rfl (m_room _ _ hdl hmc1 hmc h.1 (li_L h) (li_8 h)) q163 q164 q165 q23 q166 (by decide +kernel) rfl rfl (by decide) rfl rfl (Nat.le_of_ble_eq_true rfl) dL_law_239 (fun v u hx => ?_)
  obtain ⟨⟨fr', F', O', Lf', At', E', rfl⟩, hx⟩ := hx
  refine j_aload_n C dL_law_242 2 rfl ?_
  refine j_callip (ci := 1) (n := 0) (wc := (yw d dz b mc dl R Hd ML G E2)) (wr := (xw d a mc dl fr' kn be R L F' O' Lf' At' E' P)) (tys' := [(d, .int), (dz, .boolean)]) C [0, 1, 2, 3, 4, 5] [6, 7, 8, 9, 10, 11, 12, 13, 14] [0, 1] rfl rfl rfl (by decide) (by decide) (by decide) rfl (y_room _ _ hdl hmc1 hmc h.1 h.2.1) q259 q260 q261 q24 q262 (by decide +kernel) rfl rfl (by decide) rfl rfl (Nat.le_of_ble_eq_true rfl) dL_law_243 (fun v' u hy => ?_)
  obtain ⟨⟨G', E2', rfl⟩, hy⟩ := hy
  rw [← h.2.2.1] at hy
  have e := rm_uniq hx hy
  subst e
  have h1 := h
  refine j_same (tgt := 264) C dL_law_246 (by decide) ?_
  exact kk _ _ _ _ _ _ _ _ _ _ _ _ _ _ _ h1
set_option maxHeartbeats 4000000 in
/-- case 7: jobs -/
theorem law_7 (C : jC k code 4 "BatchAdmissionLaw" [(d, .int), (dz, .boolean)] room_1) (hX : jX k sb Ln xs) (hi : i + 2 < Ln) (hLn : Ln ≤ 194) (hmc1 : 1 ≤ mc) (hmc : mc ≤ 3) (hdl : 0 ≤ dl ∧ dl ≤ 300) (kk : LK k d dz a b mc dl sb i 264) : LK k d dz a b mc dl sb i 251 := by
  intro fr kn be R L F O Lf At E P Hd ML G E2 h
  refine j_aload_n C dL_law_251 1 rfl ?_
  refine j_callip (ci := 0) (n := 0) (wc := (xw d a mc dl fr kn be R L F O Lf At E P)) (wr := (yw d dz b mc dl R Hd ML G E2)) (tys' := [(d, .int)]) C [0, 1, 2, 3, 4, 5, 6, 7, 8] [9, 10, 11, 12, 13, 14] [0] rfl rfl rfl (by decide) (by decide) (by decide) rfl (m_jobs _ _ (li_L h)) q167 q168 q169 q23 q170 (by decide +kernel) rfl rfl (by decide) rfl rfl (Nat.le_of_ble_eq_true rfl) dL_law_252 (fun v u hx => ?_)
  obtain ⟨rfl, hx⟩ := hx
  refine j_aload_n C dL_law_255 2 rfl ?_
  refine j_callip (ci := 1) (n := 0) (wc := (yw d dz b mc dl R Hd ML G E2)) (wr := (xw d a mc dl fr kn be R L F O Lf At E P)) (tys' := [(d, .int), (dz, .boolean)]) C [0, 1, 2, 3, 4, 5] [6, 7, 8, 9, 10, 11, 12, 13, 14] [0, 1] rfl rfl rfl (by decide) (by decide) (by decide) rfl (y_jobs _ _ h.2.1) q263 q208 q209 q24 q210 (by decide +kernel) rfl rfl (by decide) rfl rfl (Nat.le_of_ble_eq_true rfl) dL_law_256 (fun v' u hy => ?_)
  obtain ⟨rfl, hy⟩ := hy
  rw [← h.2.2.1] at hy
  have e := hx.trans hy.symm
  subst e
  have h1 := h
  refine j_same (tgt := 264) C dL_law_259 (by decide) ?_
  exact kk _ _ _ _ _ _ _ _ _ _ _ _ _ _ _ h1
end Cases
end
section
/-! the law's loop, its body, the claim -/
set_option maxRecDepth 100000
set_option maxHeartbeats 4000000 in
theorem law_loop {k : JK} {d dz : ClassId} {a b : Nat → Nat} {mc : Nat} {dl : Int} {sb Ln : Nat} {xs : Nat → Int32} (C : jC k code 4 "BatchAdmissionLaw" [(d, .int), (dz, .boolean)] room_1) (hX : jX k sb Ln xs) (hLn : Ln ≤ 194) (hmc1 : 1 ≤ mc) (hmc : mc ≤ 3) (hdl : 0 ≤ dl ∧ dl ≤ 300) (hE : jE k) : ∀ (n i : Nat), i ≤ Ln + 2 → Ln + 3 - i < n → LK k d dz a b mc dl sb i 38
  | 0, i, hi, hn => by omega
  | n + 1, i, hi, hn => by
    intro fr kn be R L F O Lf At E P Hd ML G E2 h
    refine j_iload_n C dL_law_38 3 rfl ?_
    refine j_aload_n C dL_law_39 0 rfl ?_
    refine j_slen C hX dL_law_40 ?_
    refine j_iconst C dL_law_41 ?_
    refine j_isub C dL_law_42 ?_
    refine j_icmp_gt (tgt := 270) C dL_law_43 (by decide) (by omega) (by omega) (fun g => ?_) (fun g => ?_)
    · refine j_iconst C dL_law_270 ?_
      exact j_end hE dL_law_271
    · have hi2 : i + 2 < Ln := by omega
      have kk : LK k d dz a b mc dl sb i 264 := by
        intro fr kn be R L F O Lf At E P Hd ML G E2 h
        refine j_iinc (lv' := [(0, .ref sb), (1, .ref (a 0)), (2, .ref (b 0)), (3, .int (zI ((i + 3 : Nat) : Int)))]) C (((i + 3 : Nat) : Int)) dL_law_264 3 rfl (by omega) (by decide) rfl rfl ?_
        refine j_goto (tgt := 38) C dL_law_267 (by decide) ?_
        exact law_loop C hX hLn hmc1 hmc hdl hE n (i + 3) (by omega) (by omega) _ _ _ _ _ _ _ _ _ _ _ _ _ _ _ h
      refine j_aload_n C dL_law_46 0 rfl ?_
      refine j_iload_n C dL_law_47 3 rfl ?_
      refine j_sld C hX i rfl (by omega) (by omega) dL_law_48 ?_
      refine j_bipush C dL_law_49 (by decide +kernel) ?_
      refine j_iand C dL_law_51 ?_
      obtain ⟨q, hq, e⟩ := pk_andE (zI (xs i).toInt) (m := zI 7) 3 (by decide +kernel)
      rw [e]
      rcases (show q = 0 ∨ q = 1 ∨ q = 2 ∨ q = 3 ∨ q = 4 ∨ q = 5 ∨ q = 6 ∨ q = 7 by omega) with rfl | rfl | rfl | rfl | rfl | rfl | rfl | rfl
      · refine j_tsw (off := 48) (tgt := 100) C dL_law_52 (by decide +kernel) (by decide +kernel) (by decide +kernel) (by decide) ?_
        exact law_0 C hX hi2 hLn hmc1 hmc hdl kk _ _ _ _ _ _ _ _ _ _ _ _ _ _ _ h
      · refine j_tsw (off := 71) (tgt := 123) C dL_law_52 (by decide +kernel) (by decide +kernel) (by decide +kernel) (by decide) ?_
        exact law_1 C hX hi2 hLn hmc1 hmc hdl kk _ _ _ _ _ _ _ _ _ _ _ _ _ _ _ h
      · refine j_tsw (off := 94) (tgt := 146) C dL_law_52 (by decide +kernel) (by decide +kernel) (by decide +kernel) (by decide) ?_
        exact law_2 C hX hi2 hLn hmc1 hmc hdl kk _ _ _ _ _ _ _ _ _ _ _ _ _ _ _ h
      · refine j_tsw (off := 127) (tgt := 179) C dL_law_52 (by decide +kernel) (by decide +kernel) (by decide +kernel) (by decide) ?_
        exact law_3 C hX hi2 hLn hmc1 hmc hdl kk _ _ _ _ _ _ _ _ _ _ _ _ _ _ _ h
      · refine j_tsw (off := 140) (tgt := 192) C dL_law_52 (by decide +kernel) (by decide +kernel) (by decide +kernel) (by decide) ?_
        exact law_4 C hX hi2 hLn hmc1 hmc hdl kk _ _ _ _ _ _ _ _ _ _ _ _ _ _ _ h
      · refine j_tsw (off := 163) (tgt := 215) C dL_law_52 (by decide +kernel) (by decide +kernel) (by decide +kernel) (by decide) ?_
        exact law_5 C hX hi2 hLn hmc1 hmc hdl kk _ _ _ _ _ _ _ _ _ _ _ _ _ _ _ h
      · refine j_tsw (off := 186) (tgt := 238) C dL_law_52 (by decide +kernel) (by decide +kernel) (by decide +kernel) (by decide) ?_
        exact law_6 C hX hi2 hLn hmc1 hmc hdl kk _ _ _ _ _ _ _ _ _ _ _ _ _ _ _ h
      · refine j_tsw (off := 199) (tgt := 251) C dL_law_52 (by decide +kernel) (by decide +kernel) (by decide +kernel) (by decide) ?_
        exact law_7 C hX hi2 hLn hmc1 hmc hdl kk _ _ _ _ _ _ _ _ _ _ _ _ _ _ _ h
set_option maxHeartbeats 4000000 in
theorem law_body {k : JK} {sb Ln : Nat} {xs : Nat → Int32} (hLn : Ln ≤ 194) (C : jC k code 4 "BatchAdmissionLaw" [] room_1) (hX : jX k sb Ln xs) (hE : jE k) : JJ k 0 0 [] 0 [(0, .ref sb)] [] := by
  refine j_new (ci := 0) (fs := [.int (zI 0), .int (zI 0), .null, .null, .null, .int (zI 0), .null, .null, .null, .null, .int (zI 0), .int (zI 0), .null]) C in_X1 tyX1 tyX1_ok q25 q26 q23 rfl (fun j hj => by rcases (show j = 0 ∨ j = 1 ∨ j = 2 ∨ j = 3 ∨ j = 4 ∨ j = 5 ∨ j = 6 ∨ j = 7 ∨ j = 8 ∨ j = 9 ∨ j = 10 ∨ j = 11 ∨ j = 12 by omega) with rfl | rfl | rfl | rfl | rfl | rfl | rfl | rfl | rfl | rfl | rfl | rfl | rfl <;> rfl) (by decide) dL_law_0 (fun q => ?_)
  refine j_dup C dL_law_3 rfl ?_
  refine j_aload_n C dL_law_4 0 rfl ?_
  refine j_iconst C dL_law_5 ?_
  refine j_cell C hX (by omega) 0 (by omega) (by decide) (Nat.le_of_ble_eq_true rfl) dL_law_6 ?_
  refine j_aload_n C dL_law_9 0 rfl ?_
  refine j_iconst C dL_law_10 ?_
  refine j_cell C hX (by omega) 1 (by omega) (by decide) (Nat.le_of_ble_eq_true rfl) dL_law_11 ?_
  refine j_callc (n := 2) (wc := [(q, .inr (0, [.int (zI 0), .int (zI 0), .null, .null, .null, .int (zI 0), .null, .null, .null, .null, .int (zI 0), .int (zI 0), .null]))]) (wr := []) C [0] [] rfl rfl rfl (by decide) (by decide) (by decide) (m_init _ _ q _ _ (cell_rng _ _ _) (cell_rng _ _ _)) q27 q28 q23 q29 rfl (by decide +kernel) (by decide) rfl rfl (Nat.le_of_ble_eq_true rfl) dL_law_14 (fun u tysu hq C => ?_)
  obtain ⟨d, a, rfl, ha, rfl⟩ := hq
  subst ha
  show JJ k 9 74 (xw d a (cm (cellI Ln xs 0)) (cd (cellI Ln xs 1)) 0 0 0 (fun _ => 0) (fun _ => 0) (fun _ => 0) (fun _ => 0) (fun _ => 0) (fun _ => 0) (fun _ => 0) (fun _ => 0)) 17 [(0, .ref sb)] [.ref (a 0)]
  refine j_astore_n (lv' := [(0, .ref sb), (1, .ref (a 0))]) C dL_law_17 (by decide) rfl rfl ?_
  refine j_new (ci := 1) (fs := [.int (zI 0), .int (zI 0), .null, .null, .null, .null, .null]) C in_X2 tyX2 tyX2_ok q174 q175 q24 rfl (fun j hj => by rcases (show j = 0 ∨ j = 1 ∨ j = 2 ∨ j = 3 ∨ j = 4 ∨ j = 5 ∨ j = 6 by omega) with rfl | rfl | rfl | rfl | rfl | rfl | rfl <;> rfl) (by decide) dL_law_18 (fun q => ?_)
  refine j_dup C dL_law_21 rfl ?_
  refine j_aload_n C dL_law_22 0 rfl ?_
  refine j_iconst C dL_law_23 ?_
  refine j_cell C hX (by omega) 0 (by omega) (by decide) (Nat.le_of_ble_eq_true rfl) dL_law_24 ?_
  refine j_aload_n C dL_law_27 0 rfl ?_
  refine j_iconst C dL_law_28 ?_
  refine j_cell C hX (by omega) 1 (by omega) (by decide) (Nat.le_of_ble_eq_true rfl) dL_law_29 ?_
  refine j_callc (n := 2) (wc := [(q, .inr (1, [.int (zI 0), .int (zI 0), .null, .null, .null, .null, .null]))]) (wr := (xw d a (cm (cellI Ln xs 0)) (cd (cellI Ln xs 1)) 0 0 0 (fun _ => 0) (fun _ => 0) (fun _ => 0) (fun _ => 0) (fun _ => 0) (fun _ => 0) (fun _ => 0) (fun _ => 0))) C [9] [0, 1, 2, 3, 4, 5, 6, 7, 8] rfl rfl rfl (by decide) (by decide) (by decide) (y_init _ _ d q _ _ (cell_rng _ _ _) (cell_rng _ _ _)) q176 q177 q24 q178 rfl (by decide +kernel) (by decide) rfl rfl (Nat.le_of_ble_eq_true rfl) dL_law_32 (fun u tysu hq C => ?_)
  obtain ⟨dz, b, rfl, hb, rfl⟩ := hq
  subst hb
  show JJ k 15 111 ((xw d a (cm (cellI Ln xs 0)) (cd (cellI Ln xs 1)) 0 0 0 (fun _ => 0) (fun _ => 0) (fun _ => 0) (fun _ => 0) (fun _ => 0) (fun _ => 0) (fun _ => 0) (fun _ => 0)) ++ (yw d dz b (cm (cellI Ln xs 0)) (cd (cellI Ln xs 1)) (fun _ => 0) (fun _ => 0) (fun _ => 0) (fun _ => 0) (fun _ => 0))) 35 [(0, .ref sb), (1, .ref (a 0))] [.ref (b 0)]
  refine j_astore_n (lv' := [(0, .ref sb), (1, .ref (a 0)), (2, .ref (b 0))]) C dL_law_35 (by decide) rfl rfl ?_
  refine j_iconst C dL_law_36 ?_
  refine j_istore_n (lv' := [(0, .ref sb), (1, .ref (a 0)), (2, .ref (b 0)), (3, .int (zI ((2 : Nat) : Int)))]) C dL_law_37 (by decide) rfl rfl ?_
  exact law_loop C hX hLn (cm_bd _).1 (cm_bd _).2 (cd_bd _) hE (Ln + 4) 2 (by omega) (by omega) _ _ _ _ _ _ _ _ _ _ _ _ _ _ _ li_0
set_option maxHeartbeats 4000000 in
/-- from the entry, for every script of at most 194 ints, the law comes to its end with true -/
theorem whole_start {p : Program} {e : Env} {s : State} {m : MethodId} {below : List Frame} {meth : Method} {c : Code} (l : Launch) {b L : Nat} {xs : Nat → Int32} (hL : L ≤ 194) (C0 : lw_At p s m meth c b L xs) : W p l e room_1 s m #[Value.ref b] below meth c s.heap [] 0 0 (lw_Z below #[Value.ref b] s) (entryFrame m ([Value.ref b] : List Value).toArray 4) := by
  obtain ⟨hx, hb, hr, hml, hown, hts0, hX, hbl, hlocks, hgv⟩ := id C0
  have hts : ∀ w ∈ lw_all, w.before #[Value.ref b] s = true := fun w h => hts0 w (lw_all_tbl h)
  obtain ⟨c0, iS0, hKn0⟩ := u_known (C := RX1) (T := TX1) (N := 13) (n := 13) hts in_X1 (hts _ q26)
  obtain ⟨c1, iS1, hKn1⟩ := u_known (C := RX2) (T := TX2) (N := 7) (n := 7) hts in_X2 (hts _ q175)
  obtain ⟨dC, dI, hKc⟩ : ∃ (dC : Nat → ClassId) (dI : Nat → Nat → Nat), ∀ (k : Nat) (q : vw_C), vwCl[k]? = some q → u_Kn s q.1 q.2.1 q.2.2 (dC k) (dI k) := by
    refine ⟨fun k => if k = 0 then c0 else c1, fun k => if k = 0 then iS0 else iS1, ?_⟩
    intro k q hq
    match k, hq with
    | 0, hq => cases hq; exact hKn0
    | 1, hq => cases hq; exact hKn1
    | k + 2, hq => simp [vwCl] at hq
  have hK : va_K (dC, dI) vwCl [] s := ⟨hKc, fun k q h => by simp at h⟩
  have hP : va_P (dC, dI) vwCl [] s.heap := fun k q h => by simp at h
  have hD : va_D (fun q : Nat => s.heap.size ≤ q) [] := ⟨fun i j p q h => by simp at h, fun k q h => by simp at h⟩
  have hl := lv_entry ([.ref b]) (n := 4) (Nat.le_of_ble_eq_true rfl)
  rw [lg_entry_eq]
  refine law_body (k := (p, l, e, room_1, s, m, #[Value.ref b], below, meth, c, lw_Z below #[Value.ref b] s, 4, (dC, dI), fun q => s.heap.size ≤ q)) hL ⟨hx, hb, hml, hown, hts, hK, fun q h => h, rfl, rfl⟩ ⟨hX, hbl, Nat.not_le.mpr hbl⟩ ?_ _ _ _ hl hP hD va_S.rf
  intro pc ls H locs hd hS
  refine va_forget (fun q hq => hS.2.2 q hq) (W.widen (k := 600000) (n := 7290000) (by omega) (by omega) ?_)
  exact lw_ret hx hb hr hlocks hd
set_option maxHeartbeats 4000000 in
theorem lw_walk (l : Launch) (b : Addr) (xs : List Int32) : MetFree l x (headSpec (Jvm.Cond.code x code maxLocals ret :: tables_1) room_1) (lw_P b xs) (fun _ _ _ _ _ => True) lw_Q := by
  refine MetFree.of_bodyS (code := code) (maxLocals := maxLocals) (ret := ret) (by decide) ?_ ?_
  · intro args s m h hn
    obtain ⟨meth, c, h1, h2, h3, h4, h5, h6, -, -⟩ := Cond.code_spec hn (atoms_spec (ws := Jvm.Cond.code x code maxLocals ret :: tables_1) h _ List.mem_cons_self)
    exact ⟨meth, c, h1, h2, h3, h4, h5, h6⟩
  · intro p e s m args below meth c s₁ B hml0 hP _
    obtain ⟨rfl, hx, hbd, hgv⟩ := hP
    obtain ⟨scr, harrAt, hlist, hof, hsmall⟩ := hx
    obtain ⟨hcb, hkn, -, -⟩ := State.arrayAt?_spec harrAt
    have hown : s.vm.findClass R_law = some m.cls := findClass_of_methodNamed B.named
    have hts0 : ∀ c ∈ (Jvm.Cond.code x code maxLocals ret :: tables_1), c.before #[Value.ref b] s = true := atoms_spec (ws := Jvm.Cond.code x code maxLocals ret :: tables_1) B.pre
    have hts : ∀ w ∈ lw_tbl, w.before #[Value.ref b] s = true := k2_hts_sels lw_privs (fun w hw => hts0 w (List.mem_cons_of_mem _ hw)) lw_privs_ok
    have hml : c.maxLocals = 4 := B.maxLocals_eq (hts0 _ List.mem_cons_self)
    have X₀ : Stand p l e room_1 s m #[Value.ref b] below meth c s₁ [] 0 0 := Stand.of_body B
    have hh0 : s₁.heap = s.heap := by rw [B.state]; rfl
    have hsz : scr.slots.size = xs.length := by rw [← Array.length_toList, hlist, List.length_map]
    have hval : ∀ j : Nat, j < xs.length → scr.slots[j]? = some (.int (xs.getD j 0)) := fun j hj => by
      rw [← Array.getElem?_toList, hlist]
      simp [hj]
    have hbl : b < s.heap.size := (Array.getElem?_eq_some_iff.mp hcb).1
    have hX : va_X b xs.length (fun j => xs.getD j 0) s s.heap := ⟨scr, hcb, hof, hkn, hsz, hval⟩
    have K : W p l e room_1 s m #[Value.ref b] below meth c s₁.heap [] 0 0 (lw_Z below #[Value.ref b] s) (entryFrame m ([Value.ref b] : List Value).toArray 4) := by
      rw [hh0]
      exact whole_start l hbd ⟨B.exec, B.bytes, B.returns, hml, hown, hts, hX, hbl, B.notSynchronized, hgv⟩
    obtain ⟨t, a1, o, b1, b2, b3⟩ := K s₁ rfl X₀
    exact ⟨t, o, a1, b1, b2, b3⟩
theorem lw_pre_spec {args : Array Value} {s : State} (h : (Jvm.Cond.and given_1 narrow_1).before args s = true) (hr : rest_1_c.before args s = true) : ∃ (b : Addr) (xs : List Int32), lw_P b xs args s := by
  have hs := flat_of_before _ h
  have hq := flat_of_before _ hr
  have hc : (Cond.count 1).before args s = true := hs _ (by decide +kernel)
  have harr : (Cond.arrayOf (.arg 0) .int).before args s = true := hs _ (by decide +kernel)
  have hle : (Cond.le (.length (.arg 0)) (.int 194)).before args s = true := hs _ (by decide +kernel)
  have hlen : (Cond.isInt (.length (.arg 0))).before args s = true := hq _ (by decide +kernel)
  have hall : (Cond.all (.arg 0) (.isInt (.elem (.arg 0) (.index 0)))).before args s = true := hq _ (by decide +kernel)
  obtain ⟨b, xs, hb, hx⟩ := State.ints_of_pre rfl harr hlen hall
  have hsm : xs.length < 2 ^ 31 := hx.choose_spec.2.2.2
  have hev : (Term.length (.arg 0)).eval args s none [] s = some (.int xs.length.toInt32) := hx.length_eval hb
  have hv := Cond.le_ints hev (show (Term.int 194).eval args s none [] s = some (.int 194) from rfl)
  have hd : xs.length.toInt32 ≤ 194 := by
    simpa [Cond.before, Cond.holds, hv] using hle
  have hN : xs.length ≤ 194 := (Int32.ofNat_le_ofNat hsm (by decide)).mp (show Int32.ofNat xs.length ≤ Int32.ofNat 194 from hd)
  exact ⟨b, xs, Cond.one_arg hc (show args[0]? = some (.ref b) from hb), hx, hN, h⟩
theorem lw_comes (l : Launch) : Comes l x (Jvm.Cond.code x code maxLocals ret :: tables_1) room_1 (fun tb e args s => Calls_1 tb e args s ∧ rest_1 tb e args s ∧ Pre_1 tb e args s)
    (fun _ _ args s o t => lw_Q args s o t) := by
  intro p e ha hc hk s m args below hf hfit hheap happ hpre
  obtain ⟨b, xs, hP⟩ := lw_pre_spec hpre.2.2 hpre.2.1
  obtain ⟨k, o, h1, h2, h3, hQ⟩ := lw_walk l b xs p e ha hc hk s m args below hf ((Spec.applies_iff_loose hf).mp happ).1 hP trivial
  exact ⟨k, o, h1, h2, h3, hQ⟩
theorem lw_frame {s t : State} {o : Outcome} {args : Array Value} (h : Framed s o t [] 600000 7290000) :
    Framed s o t (fieldLocs frame_1_writes args s ++ arrayLocs frame_1_arrays args s ++ staticLocs frame_1_statics s) 600000 7290000 := h
theorem lw_limb (L : Cond) (hL : ∀ (args : Array Value) (s t : State), L.after args s (.returned (some (.int 1))) t = true) :
    ArmFor flags0 classFile x code maxLocals ret World_1 tables_1 room_1 Calls_1 rest_1 Pre_1
      (fun tb e a s o t => postC L tb e a s o t ∧ Framed s o t (fieldLocs frame_1_writes a s ++ arrayLocs frame_1_arrays a s ++ staticLocs frame_1_statics s) 600000 7290000) := by
  intro l _ _ _ p e ha hc hk s m args below hf hfit hheap happ hpre
  obtain ⟨k, o, h1, h2, h3, rfl, hF⟩ := lw_comes l p e ha hc hk s m args below hf hfit hheap happ hpre
  exact ⟨k, _, h1, h2, h3, hL args s _, lw_frame hF⟩
theorem i_vc : Claimed_1_1 ∧ Claimed_1_2 := ⟨lw_limb limb_1_1 (fun args s t => by simp [limb_1_1, Cond.after, Cond.holds, Cond.value]), lw_limb limb_1_2 (fun args s t => Cond.after_iff.mpr (by
  first | (rw [show limb_1_2 = Cond.eq .result (.int 1) from rfl, Cond.eq_ints (x := 1) (y := 1) rfl rfl]; simp; done) | (simp [limb_1_2, Cond.value, Term.eval]; done)))⟩
end
