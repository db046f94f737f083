section
-- ===== PART A: goes FIRST, ahead of the names: the tables' words, and 'selects' of the private methods out of them =====
/-- a private method of a class that the tables say can be made, by its rows of tables_1 -/
def lw_okq (q : MethodName × Nat) : Prop := (q.1.cls ≠ "java/lang/invoke/MethodHandle" ∧ q.1.cls ≠ "java/lang/invoke/VarHandle") ∧ Cond.instantiable q.1.cls q.2 ∈ tables_1 ∧ Cond.privateMethod q.1 ∈ tables_1 ∧ Cond.instanceMethod q.1 ∈ tables_1
set_option maxRecDepth 100000
theorem lw_t1 {w : Cond} (h : w ∈ tables_1_1) : w ∈ tables_1 := List.mem_append_left _ h
theorem lw_t2 {w : Cond} (h : w ∈ tables_1_2) : w ∈ tables_1 := List.mem_append_right _ h
theorem lw_p0 : lw_okq (⟨"ConflictSets", "isGood", "(I)Z"⟩, 11) := ⟨⟨by decide +kernel, by decide +kernel⟩, lw_t1 (List.mem_of_getElem? (i := 4) rfl), lw_t1 (List.mem_of_getElem? (i := 66) rfl), lw_t1 (List.mem_of_getElem? (i := 67) rfl)⟩
theorem lw_p1 : lw_okq (⟨"ConflictSets", "isSet", "(I)Z"⟩, 11) := ⟨⟨by decide +kernel, by decide +kernel⟩, lw_t1 (List.mem_of_getElem? (i := 4) rfl), lw_t1 (List.mem_of_getElem? (i := 82) rfl), lw_t1 (List.mem_of_getElem? (i := 83) rfl)⟩
theorem lw_p2 : lw_okq (⟨"ConflictSets", "common", "(I)I"⟩, 11) := ⟨⟨by decide +kernel, by decide +kernel⟩, lw_t1 (List.mem_of_getElem? (i := 4) rfl), lw_t1 (List.mem_of_getElem? (i := 86) rfl), lw_t1 (List.mem_of_getElem? (i := 87) rfl)⟩
theorem lw_p3 : lw_okq (⟨"ConflictSets", "solve", "()V"⟩, 11) := ⟨⟨by decide +kernel, by decide +kernel⟩, lw_t1 (List.mem_of_getElem? (i := 4) rfl), lw_t1 (List.mem_of_getElem? (i := 98) rfl), lw_t1 (List.mem_of_getElem? (i := 99) rfl)⟩
theorem lw_p4 : lw_okq (⟨"ConflictSets", "waits", "(I)Z"⟩, 11) := ⟨⟨by decide +kernel, by decide +kernel⟩, lw_t1 (List.mem_of_getElem? (i := 4) rfl), lw_t1 (List.mem_of_getElem? (i := 102) rfl), lw_t1 (List.mem_of_getElem? (i := 103) rfl)⟩
theorem lw_p5 : lw_okq (⟨"ConflictSets", "grow", "(II)I"⟩, 11) := ⟨⟨by decide +kernel, by decide +kernel⟩, lw_t1 (List.mem_of_getElem? (i := 4) rfl), lw_t1 (List.mem_of_getElem? (i := 106) rfl), lw_t1 (List.mem_of_getElem? (i := 107) rfl)⟩
theorem lw_p6 : lw_okq (⟨"ConflictSets", "putFix", "(I)V"⟩, 11) := ⟨⟨by decide +kernel, by decide +kernel⟩, lw_t1 (List.mem_of_getElem? (i := 4) rfl), lw_t1 (List.mem_of_getElem? (i := 110) rfl), lw_t1 (List.mem_of_getElem? (i := 111) rfl)⟩
theorem lw_p7 : lw_okq (⟨"ConflictSets", "takeParts", "(I)V"⟩, 11) := ⟨⟨by decide +kernel, by decide +kernel⟩, lw_t1 (List.mem_of_getElem? (i := 4) rfl), lw_t1 (List.mem_of_getElem? (i := 114) rfl), lw_t1 (List.mem_of_getElem? (i := 115) rfl)⟩
theorem lw_p8 : lw_okq (⟨"ConflictSets", "takeOff", "(I)V"⟩, 11) := ⟨⟨by decide +kernel, by decide +kernel⟩, lw_t1 (List.mem_of_getElem? (i := 4) rfl), lw_t1 (List.mem_of_getElem? (i := 118) rfl), lw_t1 (List.mem_of_getElem? (i := 119) rfl)⟩
theorem lw_p9 : lw_okq (⟨"ConflictSets", "shrink", "(I)I"⟩, 11) := ⟨⟨by decide +kernel, by decide +kernel⟩, lw_t1 (List.mem_of_getElem? (i := 4) rfl), lw_t1 (List.mem_of_getElem? (i := 122) rfl), lw_t1 (List.mem_of_getElem? (i := 123) rfl)⟩
theorem lw_p10 : lw_okq (⟨"ConflictSets", "putKernel", "(I)V"⟩, 11) := ⟨⟨by decide +kernel, by decide +kernel⟩, lw_t1 (List.mem_of_getElem? (i := 4) rfl), lw_t1 (List.mem_of_getElem? (i := 126) rfl), lw_t1 (List.mem_of_getElem? (i := 127) rfl)⟩
theorem lw_p11 : lw_okq (⟨"ConflictSets", "takeAround", "(II)V"⟩, 11) := ⟨⟨by decide +kernel, by decide +kernel⟩, lw_t1 (List.mem_of_getElem? (i := 4) rfl), lw_t1 (List.mem_of_getElem? (i := 130) rfl), lw_t1 (List.mem_of_getElem? (i := 131) rfl)⟩
theorem lw_p12 : lw_okq (⟨"ConflictSets", "priceOf", "(I)I"⟩, 11) := ⟨⟨by decide +kernel, by decide +kernel⟩, lw_t1 (List.mem_of_getElem? (i := 4) rfl), lw_t1 (List.mem_of_getElem? (i := 154) rfl), lw_t1 (List.mem_of_getElem? (i := 155) rfl)⟩
theorem lw_p13 : lw_okq (⟨"ConflictSetsModel", "size", "(I)I"⟩, 5) := ⟨⟨by decide +kernel, by decide +kernel⟩, lw_t1 (List.mem_of_getElem? (i := 182) rfl), lw_t1 (List.mem_of_getElem? (i := 209) rfl), lw_t1 (List.mem_of_getElem? (i := 210) rfl)⟩
theorem lw_p14 : lw_okq (⟨"ConflictSetsModel", "bad", "(I)Z"⟩, 5) := ⟨⟨by decide +kernel, by decide +kernel⟩, lw_t1 (List.mem_of_getElem? (i := 182) rfl), lw_t1 (List.mem_of_getElem? (i := 225) rfl), lw_t1 (List.mem_of_getElem? (i := 226) rfl)⟩
theorem lw_p15 : lw_okq (⟨"ConflictSetsModel", "badSet", "(I)Z"⟩, 5) := ⟨⟨by decide +kernel, by decide +kernel⟩, lw_t1 (List.mem_of_getElem? (i := 182) rfl), lw_t2 (List.mem_of_getElem? (i := 1) rfl), lw_t2 (List.mem_of_getElem? (i := 2) rfl)⟩
def lw_privs_1 : List (MethodName × Nat) := [(⟨"ConflictSets", "isGood", "(I)Z"⟩, 11), (⟨"ConflictSets", "isSet", "(I)Z"⟩, 11), (⟨"ConflictSets", "common", "(I)I"⟩, 11), (⟨"ConflictSets", "solve", "()V"⟩, 11), (⟨"ConflictSets", "waits", "(I)Z"⟩, 11), (⟨"ConflictSets", "grow", "(II)I"⟩, 11), (⟨"ConflictSets", "putFix", "(I)V"⟩, 11), (⟨"ConflictSets", "takeParts", "(I)V"⟩, 11), (⟨"ConflictSets", "takeOff", "(I)V"⟩, 11), (⟨"ConflictSets", "shrink", "(I)I"⟩, 11), (⟨"ConflictSets", "putKernel", "(I)V"⟩, 11), (⟨"ConflictSets", "takeAround", "(II)V"⟩, 11), (⟨"ConflictSets", "priceOf", "(I)I"⟩, 11), (⟨"ConflictSetsModel", "size", "(I)I"⟩, 5), (⟨"ConflictSetsModel", "bad", "(I)Z"⟩, 5), (⟨"ConflictSetsModel", "badSet", "(I)Z"⟩, 5)]
theorem lw_r1 : ∀ q ∈ lw_privs_1, lw_okq q := List.forall_mem_cons.mpr ⟨lw_p0, List.forall_mem_cons.mpr ⟨lw_p1, List.forall_mem_cons.mpr ⟨lw_p2, List.forall_mem_cons.mpr ⟨lw_p3, List.forall_mem_cons.mpr ⟨lw_p4, List.forall_mem_cons.mpr ⟨lw_p5, List.forall_mem_cons.mpr ⟨lw_p6, List.forall_mem_cons.mpr ⟨lw_p7, List.forall_mem_cons.mpr ⟨lw_p8, List.forall_mem_cons.mpr ⟨lw_p9, List.forall_mem_cons.mpr ⟨lw_p10, List.forall_mem_cons.mpr ⟨lw_p11, List.forall_mem_cons.mpr ⟨lw_p12, List.forall_mem_cons.mpr ⟨lw_p13, List.forall_mem_cons.mpr ⟨lw_p14, List.forall_mem_cons.mpr ⟨lw_p15, fun _ h => absurd h List.not_mem_nil⟩⟩⟩⟩⟩⟩⟩⟩⟩⟩⟩⟩⟩⟩⟩⟩
theorem lw_p16 : lw_okq (⟨"ConflictSetsModel", "find", "(I)I"⟩, 5) := ⟨⟨by decide +kernel, by decide +kernel⟩, lw_t1 (List.mem_of_getElem? (i := 182) rfl), lw_t2 (List.mem_of_getElem? (i := 5) rfl), lw_t2 (List.mem_of_getElem? (i := 6) rfl)⟩
theorem lw_p17 : lw_okq (⟨"ConflictSetsModel", "all", "(II)Z"⟩, 5) := ⟨⟨by decide +kernel, by decide +kernel⟩, lw_t1 (List.mem_of_getElem? (i := 182) rfl), lw_t2 (List.mem_of_getElem? (i := 9) rfl), lw_t2 (List.mem_of_getElem? (i := 10) rfl)⟩
theorem lw_p18 : lw_okq (⟨"ConflictSetsModel", "holds", "(II)Z"⟩, 5) := ⟨⟨by decide +kernel, by decide +kernel⟩, lw_t1 (List.mem_of_getElem? (i := 182) rfl), lw_t2 (List.mem_of_getElem? (i := 13) rfl), lw_t2 (List.mem_of_getElem? (i := 14) rfl)⟩
theorem lw_p19 : lw_okq (⟨"ConflictSetsModel", "listed", "(ZI)I"⟩, 5) := ⟨⟨by decide +kernel, by decide +kernel⟩, lw_t1 (List.mem_of_getElem? (i := 182) rfl), lw_t2 (List.mem_of_getElem? (i := 25) rfl), lw_t2 (List.mem_of_getElem? (i := 26) rfl)⟩
theorem lw_p20 : lw_okq (⟨"ConflictSetsModel", "work", "()V"⟩, 5) := ⟨⟨by decide +kernel, by decide +kernel⟩, lw_t1 (List.mem_of_getElem? (i := 182) rfl), lw_t2 (List.mem_of_getElem? (i := 29) rfl), lw_t2 (List.mem_of_getElem? (i := 30) rfl)⟩
theorem lw_p21 : lw_okq (⟨"ConflictSetsModel", "isKernel", "(I)Z"⟩, 5) := ⟨⟨by decide +kernel, by decide +kernel⟩, lw_t1 (List.mem_of_getElem? (i := 182) rfl), lw_t2 (List.mem_of_getElem? (i := 33) rfl), lw_t2 (List.mem_of_getElem? (i := 34) rfl)⟩
theorem lw_p22 : lw_okq (⟨"ConflictSetsModel", "isCorrection", "(I)Z"⟩, 5) := ⟨⟨by decide +kernel, by decide +kernel⟩, lw_t1 (List.mem_of_getElem? (i := 182) rfl), lw_t2 (List.mem_of_getElem? (i := 37) rfl), lw_t2 (List.mem_of_getElem? (i := 38) rfl)⟩
theorem lw_p23 : lw_okq (⟨"ConflictSetsModel", "best", "()I"⟩, 5) := ⟨⟨by decide +kernel, by decide +kernel⟩, lw_t1 (List.mem_of_getElem? (i := 182) rfl), lw_t2 (List.mem_of_getElem? (i := 57) rfl), lw_t2 (List.mem_of_getElem? (i := 58) rfl)⟩
theorem lw_p24 : lw_okq (⟨"ConflictSetsModel", "worth", "(I)I"⟩, 5) := ⟨⟨by decide +kernel, by decide +kernel⟩, lw_t1 (List.mem_of_getElem? (i := 182) rfl), lw_t2 (List.mem_of_getElem? (i := 61) rfl), lw_t2 (List.mem_of_getElem? (i := 62) rfl)⟩
def lw_privs_2 : List (MethodName × Nat) := [(⟨"ConflictSetsModel", "find", "(I)I"⟩, 5), (⟨"ConflictSetsModel", "all", "(II)Z"⟩, 5), (⟨"ConflictSetsModel", "holds", "(II)Z"⟩, 5), (⟨"ConflictSetsModel", "listed", "(ZI)I"⟩, 5), (⟨"ConflictSetsModel", "work", "()V"⟩, 5), (⟨"ConflictSetsModel", "isKernel", "(I)Z"⟩, 5), (⟨"ConflictSetsModel", "isCorrection", "(I)Z"⟩, 5), (⟨"ConflictSetsModel", "best", "()I"⟩, 5), (⟨"ConflictSetsModel", "worth", "(I)I"⟩, 5)]
theorem lw_r2 : ∀ q ∈ lw_privs_2, lw_okq q := List.forall_mem_cons.mpr ⟨lw_p16, List.forall_mem_cons.mpr ⟨lw_p17, List.forall_mem_cons.mpr ⟨lw_p18, List.forall_mem_cons.mpr ⟨lw_p19, List.forall_mem_cons.mpr ⟨lw_p20, List.forall_mem_cons.mpr ⟨lw_p21, List.forall_mem_cons.mpr ⟨lw_p22, List.forall_mem_cons.mpr ⟨lw_p23, List.forall_mem_cons.mpr ⟨lw_p24, fun _ h => absurd h List.not_mem_nil⟩⟩⟩⟩⟩⟩⟩⟩⟩
def lw_privs : List (MethodName × Nat) := lw_privs_1 ++ (lw_privs_2)
def lw_tbl : List Cond := k2_sels lw_privs ++ tables_1
theorem lw_privs_ok : ∀ q ∈ lw_privs, lw_okq q := by
  show ∀ q ∈ lw_privs_1 ++ (lw_privs_2), lw_okq q
  exact List.forall_mem_append.mpr ⟨lw_r1, lw_r2⟩
-- ===== ONE list of words for every method: the tables' words that hold all through a run =====
def lw_all : List Cond := lw_tbl.filter goodWord
/-- a word of the tables by its place: claim/WORDS.tsv -/
theorem lw_w {w : Cond} (i : Nat) (h : lw_tbl[i]? = some w) (g : goodWord w = true) : w ∈ lw_all := List.mem_filter.mpr ⟨List.mem_of_getElem? h, g⟩
theorem lw_all_tbl {w : Cond} (h : w ∈ lw_all) : w ∈ lw_tbl := (List.mem_filter.mp h).1
theorem lw_self : GoodIn lw_all lw_all := fun w h => ⟨h, good_of_word (List.mem_filter.mp h).2⟩
/-- a class's field words, by their places -/
theorem lw_in (ws : List Cond) (ps : List Nat) (hp : ws = ps.filterMap (fun i => lw_tbl[i]?)) (hg : ws.all goodWord = true) : ∀ w ∈ ws, w ∈ lw_all := by
  intro w h
  have h1 := List.all_eq_true.mp hg w h
  rw [hp] at h
  obtain ⟨i, -, hi⟩ := List.mem_filterMap.mp h
  exact lw_w i hi h1
/-- the words of a contract for the method y with code b, L locals, answer r -/
abbrev ws_ (y : MethodName) (b : ByteArray) (L : Nat) (r : Option FieldType) : List Cond := Cond.code y b L r :: lw_all
theorem lw_meth {y : MethodName} {b : ByteArray} {L : Nat} {r : Option FieldType} (h : Cond.code y b L r ∈ lw_all) : GoodIn lw_all (ws_ y b L r) := by
  intro w hw
  rcases List.mem_cons.mp hw with e | e
  · rw [e]
    exact lw_self _ h
  · exact lw_self _ e
theorem lw_app {a c : List Cond} (ha : ∀ w ∈ a, w ∈ lw_all) (hc : GoodIn lw_all c) : GoodIn lw_all (a ++ c) := by
  intro w hw
  rcases List.mem_append.mp hw with e | e
  · exact lw_self w (ha w e)
  · exact hc w e
/-- what a call through an object asks: cwV n hts (lw_V ..) -/
theorem lw_V {own : String} {idx : Nat} {C : String} {y : MethodName} {b : ByteArray} {L : Nat} {r : Option FieldType} (h1 : Cond.methodLink own idx y ∈ lw_all) (h2 : Cond.instanceMethod y ∈ lw_all) (h3 : Cond.selects C y y ∈ lw_all) (h4 : Cond.initialized C ∈ lw_all) (h5 : Cond.code y b L r ∈ lw_all) : GoodIn lw_all (wsV own idx C y (ws_ y b L r)) := by
  refine lw_app ?_ (lw_meth h5)
  intro w hw
  simp only [List.mem_cons, List.not_mem_nil, or_false] at hw
  rcases hw with e | e | e | e
  · rw [e]; exact h1
  · rw [e]; exact h2
  · rw [e]; exact h3
  · rw [e]; exact h4
/-- what a static call asks: va_cwS n hts (lw_S ..) -/
theorem lw_S {own : String} {idx : Nat} {y : MethodName} {b : ByteArray} {L : Nat} {r : Option FieldType} (h1 : Cond.methodLink own idx y ∈ lw_all) (h2 : Cond.static y ∈ lw_all) (h3 : Cond.initialized y.cls ∈ lw_all) (h4 : Cond.code y b L r ∈ lw_all) : GoodIn lw_all (va_wsS own idx y (ws_ y b L r)) := by
  refine lw_app ?_ (lw_meth h4)
  intro w hw
  simp only [List.mem_cons, List.not_mem_nil, or_false] at hw
  rcases hw with e | e | e
  · rw [e]; exact h1
  · rw [e]; exact h2
  · rw [e]; exact h3
/-- the words of a contract for a method WITH HANDLERS (hh: its table) -/
abbrev wsW_ (y : MethodName) (b : ByteArray) (L : Nat) (r : Option FieldType) (hh : List (Nat × Nat × Nat × Nat)) : List Cond := Cond.codeWith y b L r hh :: lw_all
theorem lw_methW {y : MethodName} {b : ByteArray} {L : Nat} {r : Option FieldType} {hh : List (Nat × Nat × Nat × Nat)} (h : Cond.codeWith y b L r hh ∈ lw_all) : GoodIn lw_all (wsW_ y b L r hh) := by
  intro w hw
  rcases List.mem_cons.mp hw with e | e
  · rw [e]
    exact lw_self _ h
  · exact lw_self _ e
/-- any list of words by their places (lw_in), good -/
theorem lw_good {ws : List Cond} (h : ∀ w ∈ ws, w ∈ lw_all) : GoodIn lw_all ws := fun w hw => lw_self w (h w hw)
/-- what a call of a method with handlers asks: vx_cwVW n hts (lw_VW ..), vx_cwSW n hts (lw_SW ..) -/
theorem lw_VW {own : String} {idx : Nat} {C : String} {y : MethodName} {b : ByteArray} {L : Nat} {r : Option FieldType} {hh : List (Nat × Nat × Nat × Nat)} (h1 : Cond.methodLink own idx y ∈ lw_all) (h2 : Cond.instanceMethod y ∈ lw_all) (h3 : Cond.selects C y y ∈ lw_all) (h4 : Cond.initialized C ∈ lw_all) (h5 : Cond.codeWith y b L r hh ∈ lw_all) : GoodIn lw_all (wsV own idx C y (wsW_ y b L r hh)) := by
  refine lw_app ?_ (lw_methW h5)
  intro w hw
  simp only [List.mem_cons, List.not_mem_nil, or_false] at hw
  rcases hw with e | e | e | e
  · rw [e]; exact h1
  · rw [e]; exact h2
  · rw [e]; exact h3
  · rw [e]; exact h4
theorem lw_SW {own : String} {idx : Nat} {y : MethodName} {b : ByteArray} {L : Nat} {r : Option FieldType} {hh : List (Nat × Nat × Nat × Nat)} (h1 : Cond.methodLink own idx y ∈ lw_all) (h2 : Cond.static y ∈ lw_all) (h3 : Cond.initialized y.cls ∈ lw_all) (h4 : Cond.codeWith y b L r hh ∈ lw_all) : GoodIn lw_all (va_wsS own idx y (wsW_ y b L r hh)) := by
  refine lw_app ?_ (lw_methW h4)
  intro w hw
  simp only [List.mem_cons, List.not_mem_nil, or_false] at hw
  rcases hw with e | e | e
  · rw [e]; exact h1
  · rw [e]; exact h2
  · rw [e]; exact h3
/-- a word by its place in its run of the tables -/
theorem lw_at {r : List Cond} (hr : ∀ w ∈ r, w ∈ lw_tbl) {w : Cond} (i : Nat) (h : r[i]? = some w) : w ∈ lw_tbl := hr w (List.mem_of_getElem? h)
theorem lw_g {w : Cond} (h : w ∈ lw_tbl) (g : goodWord w = true) : w ∈ lw_all := List.mem_filter.mpr ⟨h, g⟩
theorem lw_ms : ∀ w ∈ k2_sels lw_privs, w ∈ lw_tbl := fun w h => show w ∈ k2_sels lw_privs ++ tables_1 from List.mem_append_left _ h
theorem lw_m1 : ∀ w ∈ tables_1_1, w ∈ lw_tbl := fun w h => show w ∈ k2_sels lw_privs ++ tables_1 from List.mem_append_right (k2_sels lw_privs) (show w ∈ tables_1 from List.mem_append_left _ h)
theorem lw_m2 : ∀ w ∈ tables_1_2, w ∈ lw_tbl := fun w h => show w ∈ k2_sels lw_privs ++ tables_1 from List.mem_append_right (k2_sels lw_privs) (show w ∈ tables_1 from List.mem_append_right _ h)
theorem qs0 : (Cond.selects "ConflictSets" ⟨"ConflictSets", "isGood", "(I)Z"⟩ ⟨"ConflictSets", "isGood", "(I)Z"⟩) ∈ lw_all := lw_g (lw_at lw_ms 0 rfl) rfl
theorem qs1 : (Cond.selects "ConflictSets" ⟨"ConflictSets", "isSet", "(I)Z"⟩ ⟨"ConflictSets", "isSet", "(I)Z"⟩) ∈ lw_all := lw_g (lw_at lw_ms 1 rfl) rfl
theorem qs2 : (Cond.selects "ConflictSets" ⟨"ConflictSets", "common", "(I)I"⟩ ⟨"ConflictSets", "common", "(I)I"⟩) ∈ lw_all := lw_g (lw_at lw_ms 2 rfl) rfl
theorem qs3 : (Cond.selects "ConflictSets" ⟨"ConflictSets", "solve", "()V"⟩ ⟨"ConflictSets", "solve", "()V"⟩) ∈ lw_all := lw_g (lw_at lw_ms 3 rfl) rfl
theorem qs4 : (Cond.selects "ConflictSets" ⟨"ConflictSets", "waits", "(I)Z"⟩ ⟨"ConflictSets", "waits", "(I)Z"⟩) ∈ lw_all := lw_g (lw_at lw_ms 4 rfl) rfl
theorem qs5 : (Cond.selects "ConflictSets" ⟨"ConflictSets", "grow", "(II)I"⟩ ⟨"ConflictSets", "grow", "(II)I"⟩) ∈ lw_all := lw_g (lw_at lw_ms 5 rfl) rfl
theorem qs6 : (Cond.selects "ConflictSets" ⟨"ConflictSets", "putFix", "(I)V"⟩ ⟨"ConflictSets", "putFix", "(I)V"⟩) ∈ lw_all := lw_g (lw_at lw_ms 6 rfl) rfl
theorem qs7 : (Cond.selects "ConflictSets" ⟨"ConflictSets", "takeParts", "(I)V"⟩ ⟨"ConflictSets", "takeParts", "(I)V"⟩) ∈ lw_all := lw_g (lw_at lw_ms 7 rfl) rfl
theorem qs8 : (Cond.selects "ConflictSets" ⟨"ConflictSets", "takeOff", "(I)V"⟩ ⟨"ConflictSets", "takeOff", "(I)V"⟩) ∈ lw_all := lw_g (lw_at lw_ms 8 rfl) rfl
theorem qs9 : (Cond.selects "ConflictSets" ⟨"ConflictSets", "shrink", "(I)I"⟩ ⟨"ConflictSets", "shrink", "(I)I"⟩) ∈ lw_all := lw_g (lw_at lw_ms 9 rfl) rfl
theorem qs10 : (Cond.selects "ConflictSets" ⟨"ConflictSets", "putKernel", "(I)V"⟩ ⟨"ConflictSets", "putKernel", "(I)V"⟩) ∈ lw_all := lw_g (lw_at lw_ms 10 rfl) rfl
theorem qs11 : (Cond.selects "ConflictSets" ⟨"ConflictSets", "takeAround", "(II)V"⟩ ⟨"ConflictSets", "takeAround", "(II)V"⟩) ∈ lw_all := lw_g (lw_at lw_ms 11 rfl) rfl
theorem qs12 : (Cond.selects "ConflictSets" ⟨"ConflictSets", "priceOf", "(I)I"⟩ ⟨"ConflictSets", "priceOf", "(I)I"⟩) ∈ lw_all := lw_g (lw_at lw_ms 12 rfl) rfl
theorem qs13 : (Cond.selects "ConflictSetsModel" ⟨"ConflictSetsModel", "size", "(I)I"⟩ ⟨"ConflictSetsModel", "size", "(I)I"⟩) ∈ lw_all := lw_g (lw_at lw_ms 13 rfl) rfl
theorem qs14 : (Cond.selects "ConflictSetsModel" ⟨"ConflictSetsModel", "bad", "(I)Z"⟩ ⟨"ConflictSetsModel", "bad", "(I)Z"⟩) ∈ lw_all := lw_g (lw_at lw_ms 14 rfl) rfl
theorem qs15 : (Cond.selects "ConflictSetsModel" ⟨"ConflictSetsModel", "badSet", "(I)Z"⟩ ⟨"ConflictSetsModel", "badSet", "(I)Z"⟩) ∈ lw_all := lw_g (lw_at lw_ms 15 rfl) rfl
theorem qs16 : (Cond.selects "ConflictSetsModel" ⟨"ConflictSetsModel", "find", "(I)I"⟩ ⟨"ConflictSetsModel", "find", "(I)I"⟩) ∈ lw_all := lw_g (lw_at lw_ms 16 rfl) rfl
theorem qs17 : (Cond.selects "ConflictSetsModel" ⟨"ConflictSetsModel", "all", "(II)Z"⟩ ⟨"ConflictSetsModel", "all", "(II)Z"⟩) ∈ lw_all := lw_g (lw_at lw_ms 17 rfl) rfl
theorem qs18 : (Cond.selects "ConflictSetsModel" ⟨"ConflictSetsModel", "holds", "(II)Z"⟩ ⟨"ConflictSetsModel", "holds", "(II)Z"⟩) ∈ lw_all := lw_g (lw_at lw_ms 18 rfl) rfl
theorem qs19 : (Cond.selects "ConflictSetsModel" ⟨"ConflictSetsModel", "listed", "(ZI)I"⟩ ⟨"ConflictSetsModel", "listed", "(ZI)I"⟩) ∈ lw_all := lw_g (lw_at lw_ms 19 rfl) rfl
theorem qs20 : (Cond.selects "ConflictSetsModel" ⟨"ConflictSetsModel", "work", "()V"⟩ ⟨"ConflictSetsModel", "work", "()V"⟩) ∈ lw_all := lw_g (lw_at lw_ms 20 rfl) rfl
theorem qs21 : (Cond.selects "ConflictSetsModel" ⟨"ConflictSetsModel", "isKernel", "(I)Z"⟩ ⟨"ConflictSetsModel", "isKernel", "(I)Z"⟩) ∈ lw_all := lw_g (lw_at lw_ms 21 rfl) rfl
theorem qs22 : (Cond.selects "ConflictSetsModel" ⟨"ConflictSetsModel", "isCorrection", "(I)Z"⟩ ⟨"ConflictSetsModel", "isCorrection", "(I)Z"⟩) ∈ lw_all := lw_g (lw_at lw_ms 22 rfl) rfl
theorem qs23 : (Cond.selects "ConflictSetsModel" ⟨"ConflictSetsModel", "best", "()I"⟩ ⟨"ConflictSetsModel", "best", "()I"⟩) ∈ lw_all := lw_g (lw_at lw_ms 23 rfl) rfl
theorem qs24 : (Cond.selects "ConflictSetsModel" ⟨"ConflictSetsModel", "worth", "(I)I"⟩ ⟨"ConflictSetsModel", "worth", "(I)I"⟩) ∈ lw_all := lw_g (lw_at lw_ms 24 rfl) rfl
-- ===== end of PART A; then your names; then what follows =====
end
section
/-! ConflictSets -/
set_option maxRecDepth 100000
def RX0 : String := "ConflictSets"
def TX0 : u_T := fun k => match k with
  | 0 => ("ConflictSets", "words", "[I", true)
  | 1 => ("ConflictSets", "prices", "[I", true)
  | 2 => ("ConflictSets", "draft", "[I", true)
  | 3 => ("ConflictSets", "kernelList", "[I", true)
  | 4 => ("ConflictSets", "fixList", "[I", true)
  | 5 => ("ConflictSets", "waiting", "[I", true)
  | 6 => ("ConflictSets", "count", "I", false)
  | 7 => ("ConflictSets", "draftSize", "I", false)
  | 8 => ("ConflictSets", "kernelCount", "I", false)
  | 9 => ("ConflictSets", "fixCount", "I", false)
  | _ => ("ConflictSets", "solved", "Z", false)
def tyX0 : Nat → FieldType := fun k => match k with
  | 0 => .array .int
  | 1 => .array .int
  | 2 => .array .int
  | 3 => .array .int
  | 4 => .array .int
  | 5 => .array .int
  | 6 => .int
  | 7 => .int
  | 8 => .int
  | 9 => .int
  | _ => .boolean
abbrev wsX00 : List Cond := u_ws RX0 TX0 11
theorem nmX0 : ∀ a, a < 11 → ∀ b, b < 11 → a ≠ b → (TX0 a).2.1 ≠ (TX0 b).2.1 := by decide +kernel
theorem tyX0_ok : ∀ k, k < 11 → parseFieldDescriptor (TX0 k).2.2.1 = some (tyX0 k) := by decide +kernel
abbrev cX0_init : ByteArray := prog_1_method_1_code
def yX0_init : MethodName := ⟨RX0, "<init>", "()V"⟩
theorem dX0_init_0 : decode cX0_init 0 = .ok (.aload_n 0, 1) := by decide +kernel
theorem dX0_init_1 : decode cX0_init 1 = .ok (.invokespecial 1, 3) := by decide +kernel
theorem dX0_init_4 : decode cX0_init 4 = .ok (.aload_n 0, 1) := by decide +kernel
theorem dX0_init_5 : decode cX0_init 5 = .ok (.bipush 9, 2) := by decide +kernel
theorem dX0_init_7 : decode cX0_init 7 = .ok (.newarray .int, 2) := by decide +kernel
theorem dX0_init_9 : decode cX0_init 9 = .ok (.putfield 7, 3) := by decide +kernel
theorem dX0_init_12 : decode cX0_init 12 = .ok (.aload_n 0, 1) := by decide +kernel
theorem dX0_init_13 : decode cX0_init 13 = .ok (.bipush 9, 2) := by decide +kernel
theorem dX0_init_15 : decode cX0_init 15 = .ok (.newarray .int, 2) := by decide +kernel
theorem dX0_init_17 : decode cX0_init 17 = .ok (.putfield 13, 3) := by decide +kernel
theorem dX0_init_20 : decode cX0_init 20 = .ok (.aload_n 0, 1) := by decide +kernel
theorem dX0_init_21 : decode cX0_init 21 = .ok (.iconst 4, 1) := by decide +kernel
theorem dX0_init_22 : decode cX0_init 22 = .ok (.newarray .int, 2) := by decide +kernel
theorem dX0_init_24 : decode cX0_init 24 = .ok (.putfield 16, 3) := by decide +kernel
theorem dX0_init_27 : decode cX0_init 27 = .ok (.aload_n 0, 1) := by decide +kernel
theorem dX0_init_28 : decode cX0_init 28 = .ok (.bipush 126, 2) := by decide +kernel
theorem dX0_init_30 : decode cX0_init 30 = .ok (.newarray .int, 2) := by decide +kernel
theorem dX0_init_32 : decode cX0_init 32 = .ok (.putfield 19, 3) := by decide +kernel
theorem dX0_init_35 : decode cX0_init 35 = .ok (.aload_n 0, 1) := by decide +kernel
theorem dX0_init_36 : decode cX0_init 36 = .ok (.bipush 126, 2) := by decide +kernel
theorem dX0_init_38 : decode cX0_init 38 = .ok (.newarray .int, 2) := by decide +kernel
theorem dX0_init_40 : decode cX0_init 40 = .ok (.putfield 22, 3) := by decide +kernel
theorem dX0_init_43 : decode cX0_init 43 = .ok (.aload_n 0, 1) := by decide +kernel
theorem dX0_init_44 : decode cX0_init 44 = .ok (.bipush 16, 2) := by decide +kernel
theorem dX0_init_46 : decode cX0_init 46 = .ok (.newarray .int, 2) := by decide +kernel
theorem dX0_init_48 : decode cX0_init 48 = .ok (.putfield 25, 3) := by decide +kernel
theorem dX0_init_51 : decode cX0_init 51 = .ok (.aload_n 0, 1) := by decide +kernel
theorem dX0_init_52 : decode cX0_init 52 = .ok (.iconst 0, 1) := by decide +kernel
theorem dX0_init_53 : decode cX0_init 53 = .ok (.putfield 28, 3) := by decide +kernel
theorem dX0_init_56 : decode cX0_init 56 = .ok (.return_, 1) := by decide +kernel
abbrev cX0_literal : ByteArray := prog_1_method_2_code
def yX0_literal : MethodName := ⟨RX0, "literal", "(I)I"⟩
theorem dX0_literal_0 : decode cX0_literal 0 = .ok (.iload_n 1, 1) := by decide +kernel
theorem dX0_literal_1 : decode cX0_literal 1 = .ok (.ifCond .lt 9, 3) := by decide +kernel
theorem dX0_literal_4 : decode cX0_literal 4 = .ok (.iload_n 1, 1) := by decide +kernel
theorem dX0_literal_5 : decode cX0_literal 5 = .ok (.bipush 9, 2) := by decide +kernel
theorem dX0_literal_7 : decode cX0_literal 7 = .ok (.if_icmp .le 5, 3) := by decide +kernel
theorem dX0_literal_10 : decode cX0_literal 10 = .ok (.iconst (-1), 1) := by decide +kernel
theorem dX0_literal_11 : decode cX0_literal 11 = .ok (.ireturn, 1) := by decide +kernel
theorem dX0_literal_12 : decode cX0_literal 12 = .ok (.iconst 0, 1) := by decide +kernel
theorem dX0_literal_13 : decode cX0_literal 13 = .ok (.istore_n 2, 1) := by decide +kernel
theorem dX0_literal_14 : decode cX0_literal 14 = .ok (.iload_n 2, 1) := by decide +kernel
theorem dX0_literal_15 : decode cX0_literal 15 = .ok (.aload_n 0, 1) := by decide +kernel
theorem dX0_literal_16 : decode cX0_literal 16 = .ok (.getfield 32, 3) := by decide +kernel
theorem dX0_literal_19 : decode cX0_literal 19 = .ok (.if_icmp .ge 24, 3) := by decide +kernel
theorem dX0_literal_22 : decode cX0_literal 22 = .ok (.aload_n 0, 1) := by decide +kernel
theorem dX0_literal_23 : decode cX0_literal 23 = .ok (.getfield 16, 3) := by decide +kernel
theorem dX0_literal_26 : decode cX0_literal 26 = .ok (.iload_n 2, 1) := by decide +kernel
theorem dX0_literal_27 : decode cX0_literal 27 = .ok (.iaload, 1) := by decide +kernel
theorem dX0_literal_28 : decode cX0_literal 28 = .ok (.iload_n 1, 1) := by decide +kernel
theorem dX0_literal_29 : decode cX0_literal 29 = .ok (.if_icmp .ne 8, 3) := by decide +kernel
theorem dX0_literal_32 : decode cX0_literal 32 = .ok (.aload_n 0, 1) := by decide +kernel
theorem dX0_literal_33 : decode cX0_literal 33 = .ok (.getfield 32, 3) := by decide +kernel
theorem dX0_literal_36 : decode cX0_literal 36 = .ok (.ireturn, 1) := by decide +kernel
theorem dX0_literal_37 : decode cX0_literal 37 = .ok (.iinc 2 1, 3) := by decide +kernel
theorem dX0_literal_40 : decode cX0_literal 40 = .ok (.goto (-26), 3) := by decide +kernel
theorem dX0_literal_43 : decode cX0_literal 43 = .ok (.aload_n 0, 1) := by decide +kernel
theorem dX0_literal_44 : decode cX0_literal 44 = .ok (.getfield 32, 3) := by decide +kernel
theorem dX0_literal_47 : decode cX0_literal 47 = .ok (.iconst 4, 1) := by decide +kernel
theorem dX0_literal_48 : decode cX0_literal 48 = .ok (.if_icmp .ne 6, 3) := by decide +kernel
theorem dX0_literal_51 : decode cX0_literal 51 = .ok (.bipush (-2), 2) := by decide +kernel
theorem dX0_literal_53 : decode cX0_literal 53 = .ok (.ireturn, 1) := by decide +kernel
theorem dX0_literal_54 : decode cX0_literal 54 = .ok (.aload_n 0, 1) := by decide +kernel
theorem dX0_literal_55 : decode cX0_literal 55 = .ok (.getfield 16, 3) := by decide +kernel
theorem dX0_literal_58 : decode cX0_literal 58 = .ok (.aload_n 0, 1) := by decide +kernel
theorem dX0_literal_59 : decode cX0_literal 59 = .ok (.getfield 32, 3) := by decide +kernel
theorem dX0_literal_62 : decode cX0_literal 62 = .ok (.iload_n 1, 1) := by decide +kernel
theorem dX0_literal_63 : decode cX0_literal 63 = .ok (.iastore, 1) := by decide +kernel
theorem dX0_literal_64 : decode cX0_literal 64 = .ok (.aload_n 0, 1) := by decide +kernel
theorem dX0_literal_65 : decode cX0_literal 65 = .ok (.dup, 1) := by decide +kernel
theorem dX0_literal_66 : decode cX0_literal 66 = .ok (.getfield 32, 3) := by decide +kernel
theorem dX0_literal_69 : decode cX0_literal 69 = .ok (.iconst 1, 1) := by decide +kernel
theorem dX0_literal_70 : decode cX0_literal 70 = .ok (.iadd, 1) := by decide +kernel
theorem dX0_literal_71 : decode cX0_literal 71 = .ok (.putfield 32, 3) := by decide +kernel
theorem dX0_literal_74 : decode cX0_literal 74 = .ok (.aload_n 0, 1) := by decide +kernel
theorem dX0_literal_75 : decode cX0_literal 75 = .ok (.getfield 32, 3) := by decide +kernel
theorem dX0_literal_78 : decode cX0_literal 78 = .ok (.ireturn, 1) := by decide +kernel
abbrev cX0_add : ByteArray := prog_1_method_3_code
def yX0_add : MethodName := ⟨RX0, "add", "()I"⟩
theorem dX0_add_0 : decode cX0_add 0 = .ok (.aload_n 0, 1) := by decide +kernel
theorem dX0_add_1 : decode cX0_add 1 = .ok (.getfield 32, 3) := by decide +kernel
theorem dX0_add_4 : decode cX0_add 4 = .ok (.ifCond .ne 5, 3) := by decide +kernel
theorem dX0_add_7 : decode cX0_add 7 = .ok (.iconst (-1), 1) := by decide +kernel
theorem dX0_add_8 : decode cX0_add 8 = .ok (.ireturn, 1) := by decide +kernel
theorem dX0_add_9 : decode cX0_add 9 = .ok (.aload_n 0, 1) := by decide +kernel
theorem dX0_add_10 : decode cX0_add 10 = .ok (.getfield 28, 3) := by decide +kernel
theorem dX0_add_13 : decode cX0_add 13 = .ok (.bipush 9, 2) := by decide +kernel
theorem dX0_add_15 : decode cX0_add 15 = .ok (.if_icmp .ne 6, 3) := by decide +kernel
theorem dX0_add_18 : decode cX0_add 18 = .ok (.bipush (-2), 2) := by decide +kernel
theorem dX0_add_20 : decode cX0_add 20 = .ok (.ireturn, 1) := by decide +kernel
theorem dX0_add_21 : decode cX0_add 21 = .ok (.iconst 0, 1) := by decide +kernel
theorem dX0_add_22 : decode cX0_add 22 = .ok (.istore_n 1, 1) := by decide +kernel
theorem dX0_add_23 : decode cX0_add 23 = .ok (.iconst 0, 1) := by decide +kernel
theorem dX0_add_24 : decode cX0_add 24 = .ok (.istore_n 2, 1) := by decide +kernel
theorem dX0_add_25 : decode cX0_add 25 = .ok (.iload_n 2, 1) := by decide +kernel
theorem dX0_add_26 : decode cX0_add 26 = .ok (.aload_n 0, 1) := by decide +kernel
theorem dX0_add_27 : decode cX0_add 27 = .ok (.getfield 32, 3) := by decide +kernel
theorem dX0_add_30 : decode cX0_add 30 = .ok (.if_icmp .ge 21, 3) := by decide +kernel
theorem dX0_add_33 : decode cX0_add 33 = .ok (.iload_n 1, 1) := by decide +kernel
theorem dX0_add_34 : decode cX0_add 34 = .ok (.aload_n 0, 1) := by decide +kernel
theorem dX0_add_35 : decode cX0_add 35 = .ok (.getfield 16, 3) := by decide +kernel
theorem dX0_add_38 : decode cX0_add 38 = .ok (.iload_n 2, 1) := by decide +kernel
theorem dX0_add_39 : decode cX0_add 39 = .ok (.iaload, 1) := by decide +kernel
theorem dX0_add_40 : decode cX0_add 40 = .ok (.invokestatic 35, 3) := by decide +kernel
theorem dX0_add_43 : decode cX0_add 43 = .ok (.ior, 1) := by decide +kernel
theorem dX0_add_44 : decode cX0_add 44 = .ok (.istore_n 1, 1) := by decide +kernel
theorem dX0_add_45 : decode cX0_add 45 = .ok (.iinc 2 1, 3) := by decide +kernel
theorem dX0_add_48 : decode cX0_add 48 = .ok (.goto (-23), 3) := by decide +kernel
theorem dX0_add_51 : decode cX0_add 51 = .ok (.aload_n 0, 1) := by decide +kernel
theorem dX0_add_52 : decode cX0_add 52 = .ok (.getfield 7, 3) := by decide +kernel
theorem dX0_add_55 : decode cX0_add 55 = .ok (.aload_n 0, 1) := by decide +kernel
theorem dX0_add_56 : decode cX0_add 56 = .ok (.getfield 28, 3) := by decide +kernel
theorem dX0_add_59 : decode cX0_add 59 = .ok (.iload_n 1, 1) := by decide +kernel
theorem dX0_add_60 : decode cX0_add 60 = .ok (.iastore, 1) := by decide +kernel
theorem dX0_add_61 : decode cX0_add 61 = .ok (.aload_n 0, 1) := by decide +kernel
theorem dX0_add_62 : decode cX0_add 62 = .ok (.getfield 13, 3) := by decide +kernel
theorem dX0_add_65 : decode cX0_add 65 = .ok (.aload_n 0, 1) := by decide +kernel
theorem dX0_add_66 : decode cX0_add 66 = .ok (.getfield 28, 3) := by decide +kernel
theorem dX0_add_69 : decode cX0_add 69 = .ok (.iconst 1, 1) := by decide +kernel
theorem dX0_add_70 : decode cX0_add 70 = .ok (.iastore, 1) := by decide +kernel
theorem dX0_add_71 : decode cX0_add 71 = .ok (.aload_n 0, 1) := by decide +kernel
theorem dX0_add_72 : decode cX0_add 72 = .ok (.iconst 0, 1) := by decide +kernel
theorem dX0_add_73 : decode cX0_add 73 = .ok (.putfield 32, 3) := by decide +kernel
theorem dX0_add_76 : decode cX0_add 76 = .ok (.aload_n 0, 1) := by decide +kernel
theorem dX0_add_77 : decode cX0_add 77 = .ok (.dup, 1) := by decide +kernel
theorem dX0_add_78 : decode cX0_add 78 = .ok (.getfield 28, 3) := by decide +kernel
theorem dX0_add_81 : decode cX0_add 81 = .ok (.iconst 1, 1) := by decide +kernel
theorem dX0_add_82 : decode cX0_add 82 = .ok (.iadd, 1) := by decide +kernel
theorem dX0_add_83 : decode cX0_add 83 = .ok (.putfield 28, 3) := by decide +kernel
theorem dX0_add_86 : decode cX0_add 86 = .ok (.aload_n 0, 1) := by decide +kernel
theorem dX0_add_87 : decode cX0_add 87 = .ok (.iconst 0, 1) := by decide +kernel
theorem dX0_add_88 : decode cX0_add 88 = .ok (.putfield 39, 3) := by decide +kernel
theorem dX0_add_91 : decode cX0_add 91 = .ok (.aload_n 0, 1) := by decide +kernel
theorem dX0_add_92 : decode cX0_add 92 = .ok (.getfield 28, 3) := by decide +kernel
theorem dX0_add_95 : decode cX0_add 95 = .ok (.iconst 1, 1) := by decide +kernel
theorem dX0_add_96 : decode cX0_add 96 = .ok (.isub, 1) := by decide +kernel
theorem dX0_add_97 : decode cX0_add 97 = .ok (.ireturn, 1) := by decide +kernel
abbrev cX0_wordOf : ByteArray := prog_1_method_25_code
def yX0_wordOf : MethodName := ⟨RX0, "wordOf", "(I)I"⟩
theorem dX0_wordOf_0 : decode cX0_wordOf 0 = .ok (.iconst 0, 1) := by decide +kernel
theorem dX0_wordOf_1 : decode cX0_wordOf 1 = .ok (.istore_n 1, 1) := by decide +kernel
theorem dX0_wordOf_2 : decode cX0_wordOf 2 = .ok (.iconst 0, 1) := by decide +kernel
theorem dX0_wordOf_3 : decode cX0_wordOf 3 = .ok (.istore_n 2, 1) := by decide +kernel
theorem dX0_wordOf_4 : decode cX0_wordOf 4 = .ok (.iload_n 2, 1) := by decide +kernel
theorem dX0_wordOf_5 : decode cX0_wordOf 5 = .ok (.bipush 32, 2) := by decide +kernel
theorem dX0_wordOf_7 : decode cX0_wordOf 7 = .ok (.if_icmp .ge 27, 3) := by decide +kernel
theorem dX0_wordOf_10 : decode cX0_wordOf 10 = .ok (.iload_n 2, 1) := by decide +kernel
theorem dX0_wordOf_11 : decode cX0_wordOf 11 = .ok (.iload_n 0, 1) := by decide +kernel
theorem dX0_wordOf_12 : decode cX0_wordOf 12 = .ok (.iconst 1, 1) := by decide +kernel
theorem dX0_wordOf_13 : decode cX0_wordOf 13 = .ok (.ishr, 1) := by decide +kernel
theorem dX0_wordOf_14 : decode cX0_wordOf 14 = .ok (.ishr, 1) := by decide +kernel
theorem dX0_wordOf_15 : decode cX0_wordOf 15 = .ok (.iconst 1, 1) := by decide +kernel
theorem dX0_wordOf_16 : decode cX0_wordOf 16 = .ok (.iand, 1) := by decide +kernel
theorem dX0_wordOf_17 : decode cX0_wordOf 17 = .ok (.iload_n 0, 1) := by decide +kernel
theorem dX0_wordOf_18 : decode cX0_wordOf 18 = .ok (.iconst 1, 1) := by decide +kernel
theorem dX0_wordOf_19 : decode cX0_wordOf 19 = .ok (.iand, 1) := by decide +kernel
theorem dX0_wordOf_20 : decode cX0_wordOf 20 = .ok (.ixor, 1) := by decide +kernel
theorem dX0_wordOf_21 : decode cX0_wordOf 21 = .ok (.istore_n 3, 1) := by decide +kernel
theorem dX0_wordOf_22 : decode cX0_wordOf 22 = .ok (.iload_n 1, 1) := by decide +kernel
theorem dX0_wordOf_23 : decode cX0_wordOf 23 = .ok (.iload_n 3, 1) := by decide +kernel
theorem dX0_wordOf_24 : decode cX0_wordOf 24 = .ok (.iload_n 2, 1) := by decide +kernel
theorem dX0_wordOf_25 : decode cX0_wordOf 25 = .ok (.ishl, 1) := by decide +kernel
theorem dX0_wordOf_26 : decode cX0_wordOf 26 = .ok (.ior, 1) := by decide +kernel
theorem dX0_wordOf_27 : decode cX0_wordOf 27 = .ok (.istore_n 1, 1) := by decide +kernel
theorem dX0_wordOf_28 : decode cX0_wordOf 28 = .ok (.iinc 2 1, 3) := by decide +kernel
theorem dX0_wordOf_31 : decode cX0_wordOf 31 = .ok (.goto (-27), 3) := by decide +kernel
theorem dX0_wordOf_34 : decode cX0_wordOf 34 = .ok (.iload_n 1, 1) := by decide +kernel
theorem dX0_wordOf_35 : decode cX0_wordOf 35 = .ok (.ireturn, 1) := by decide +kernel
abbrev cX0_clear : ByteArray := prog_1_method_4_code
def yX0_clear : MethodName := ⟨RX0, "clear", "()I"⟩
theorem dX0_clear_0 : decode cX0_clear 0 = .ok (.aload_n 0, 1) := by decide +kernel
theorem dX0_clear_1 : decode cX0_clear 1 = .ok (.getfield 32, 3) := by decide +kernel
theorem dX0_clear_4 : decode cX0_clear 4 = .ok (.istore_n 1, 1) := by decide +kernel
theorem dX0_clear_5 : decode cX0_clear 5 = .ok (.aload_n 0, 1) := by decide +kernel
theorem dX0_clear_6 : decode cX0_clear 6 = .ok (.iconst 0, 1) := by decide +kernel
theorem dX0_clear_7 : decode cX0_clear 7 = .ok (.putfield 32, 3) := by decide +kernel
theorem dX0_clear_10 : decode cX0_clear 10 = .ok (.iload_n 1, 1) := by decide +kernel
theorem dX0_clear_11 : decode cX0_clear 11 = .ok (.ireturn, 1) := by decide +kernel
abbrev cX0_remove : ByteArray := prog_1_method_5_code
def yX0_remove : MethodName := ⟨RX0, "remove", "(I)I"⟩
theorem dX0_remove_0 : decode cX0_remove 0 = .ok (.aload_n 0, 1) := by decide +kernel
theorem dX0_remove_1 : decode cX0_remove 1 = .ok (.iload_n 1, 1) := by decide +kernel
theorem dX0_remove_2 : decode cX0_remove 2 = .ok (.invokevirtual 43, 3) := by decide +kernel
theorem dX0_remove_5 : decode cX0_remove 5 = .ok (.ifCond .ne 5, 3) := by decide +kernel
theorem dX0_remove_8 : decode cX0_remove 8 = .ok (.iconst (-1), 1) := by decide +kernel
theorem dX0_remove_9 : decode cX0_remove 9 = .ok (.ireturn, 1) := by decide +kernel
theorem dX0_remove_10 : decode cX0_remove 10 = .ok (.iload_n 1, 1) := by decide +kernel
theorem dX0_remove_11 : decode cX0_remove 11 = .ok (.iconst 1, 1) := by decide +kernel
theorem dX0_remove_12 : decode cX0_remove 12 = .ok (.iadd, 1) := by decide +kernel
theorem dX0_remove_13 : decode cX0_remove 13 = .ok (.istore_n 2, 1) := by decide +kernel
theorem dX0_remove_14 : decode cX0_remove 14 = .ok (.iload_n 2, 1) := by decide +kernel
theorem dX0_remove_15 : decode cX0_remove 15 = .ok (.aload_n 0, 1) := by decide +kernel
theorem dX0_remove_16 : decode cX0_remove 16 = .ok (.getfield 28, 3) := by decide +kernel
theorem dX0_remove_19 : decode cX0_remove 19 = .ok (.if_icmp .ge 37, 3) := by decide +kernel
theorem dX0_remove_22 : decode cX0_remove 22 = .ok (.aload_n 0, 1) := by decide +kernel
theorem dX0_remove_23 : decode cX0_remove 23 = .ok (.getfield 7, 3) := by decide +kernel
theorem dX0_remove_26 : decode cX0_remove 26 = .ok (.iload_n 2, 1) := by decide +kernel
theorem dX0_remove_27 : decode cX0_remove 27 = .ok (.iconst 1, 1) := by decide +kernel
theorem dX0_remove_28 : decode cX0_remove 28 = .ok (.isub, 1) := by decide +kernel
theorem dX0_remove_29 : decode cX0_remove 29 = .ok (.aload_n 0, 1) := by decide +kernel
theorem dX0_remove_30 : decode cX0_remove 30 = .ok (.getfield 7, 3) := by decide +kernel
theorem dX0_remove_33 : decode cX0_remove 33 = .ok (.iload_n 2, 1) := by decide +kernel
theorem dX0_remove_34 : decode cX0_remove 34 = .ok (.iaload, 1) := by decide +kernel
theorem dX0_remove_35 : decode cX0_remove 35 = .ok (.iastore, 1) := by decide +kernel
theorem dX0_remove_36 : decode cX0_remove 36 = .ok (.aload_n 0, 1) := by decide +kernel
theorem dX0_remove_37 : decode cX0_remove 37 = .ok (.getfield 13, 3) := by decide +kernel
theorem dX0_remove_40 : decode cX0_remove 40 = .ok (.iload_n 2, 1) := by decide +kernel
theorem dX0_remove_41 : decode cX0_remove 41 = .ok (.iconst 1, 1) := by decide +kernel
theorem dX0_remove_42 : decode cX0_remove 42 = .ok (.isub, 1) := by decide +kernel
theorem dX0_remove_43 : decode cX0_remove 43 = .ok (.aload_n 0, 1) := by decide +kernel
theorem dX0_remove_44 : decode cX0_remove 44 = .ok (.getfield 13, 3) := by decide +kernel
theorem dX0_remove_47 : decode cX0_remove 47 = .ok (.iload_n 2, 1) := by decide +kernel
theorem dX0_remove_48 : decode cX0_remove 48 = .ok (.iaload, 1) := by decide +kernel
theorem dX0_remove_49 : decode cX0_remove 49 = .ok (.iastore, 1) := by decide +kernel
theorem dX0_remove_50 : decode cX0_remove 50 = .ok (.iinc 2 1, 3) := by decide +kernel
theorem dX0_remove_53 : decode cX0_remove 53 = .ok (.goto (-39), 3) := by decide +kernel
theorem dX0_remove_56 : decode cX0_remove 56 = .ok (.aload_n 0, 1) := by decide +kernel
theorem dX0_remove_57 : decode cX0_remove 57 = .ok (.dup, 1) := by decide +kernel
theorem dX0_remove_58 : decode cX0_remove 58 = .ok (.getfield 28, 3) := by decide +kernel
theorem dX0_remove_61 : decode cX0_remove 61 = .ok (.iconst 1, 1) := by decide +kernel
theorem dX0_remove_62 : decode cX0_remove 62 = .ok (.isub, 1) := by decide +kernel
theorem dX0_remove_63 : decode cX0_remove 63 = .ok (.putfield 28, 3) := by decide +kernel
theorem dX0_remove_66 : decode cX0_remove 66 = .ok (.aload_n 0, 1) := by decide +kernel
theorem dX0_remove_67 : decode cX0_remove 67 = .ok (.iconst 0, 1) := by decide +kernel
theorem dX0_remove_68 : decode cX0_remove 68 = .ok (.putfield 39, 3) := by decide +kernel
theorem dX0_remove_71 : decode cX0_remove 71 = .ok (.aload_n 0, 1) := by decide +kernel
theorem dX0_remove_72 : decode cX0_remove 72 = .ok (.getfield 28, 3) := by decide +kernel
theorem dX0_remove_75 : decode cX0_remove 75 = .ok (.ireturn, 1) := by decide +kernel
abbrev cX0_isGood : ByteArray := prog_1_method_21_code
def yX0_isGood : MethodName := ⟨RX0, "isGood", "(I)Z"⟩
theorem dX0_isGood_0 : decode cX0_isGood 0 = .ok (.iload_n 1, 1) := by decide +kernel
theorem dX0_isGood_1 : decode cX0_isGood 1 = .ok (.ifCond .lt 15, 3) := by decide +kernel
theorem dX0_isGood_4 : decode cX0_isGood 4 = .ok (.iload_n 1, 1) := by decide +kernel
theorem dX0_isGood_5 : decode cX0_isGood 5 = .ok (.aload_n 0, 1) := by decide +kernel
theorem dX0_isGood_6 : decode cX0_isGood 6 = .ok (.getfield 28, 3) := by decide +kernel
theorem dX0_isGood_9 : decode cX0_isGood 9 = .ok (.if_icmp .ge 7, 3) := by decide +kernel
theorem dX0_isGood_12 : decode cX0_isGood 12 = .ok (.iconst 1, 1) := by decide +kernel
theorem dX0_isGood_13 : decode cX0_isGood 13 = .ok (.goto 4, 3) := by decide +kernel
theorem dX0_isGood_16 : decode cX0_isGood 16 = .ok (.iconst 0, 1) := by decide +kernel
theorem dX0_isGood_17 : decode cX0_isGood 17 = .ok (.ireturn, 1) := by decide +kernel
abbrev cX0_price : ByteArray := prog_1_method_6_code
def yX0_price : MethodName := ⟨RX0, "price", "(II)I"⟩
theorem dX0_price_0 : decode cX0_price 0 = .ok (.aload_n 0, 1) := by decide +kernel
theorem dX0_price_1 : decode cX0_price 1 = .ok (.iload_n 1, 1) := by decide +kernel
theorem dX0_price_2 : decode cX0_price 2 = .ok (.invokevirtual 43, 3) := by decide +kernel
theorem dX0_price_5 : decode cX0_price 5 = .ok (.ifCond .ne 5, 3) := by decide +kernel
theorem dX0_price_8 : decode cX0_price 8 = .ok (.iconst (-1), 1) := by decide +kernel
theorem dX0_price_9 : decode cX0_price 9 = .ok (.ireturn, 1) := by decide +kernel
theorem dX0_price_10 : decode cX0_price 10 = .ok (.iload_n 2, 1) := by decide +kernel
theorem dX0_price_11 : decode cX0_price 11 = .ok (.iconst 1, 1) := by decide +kernel
theorem dX0_price_12 : decode cX0_price 12 = .ok (.if_icmp .lt 9, 3) := by decide +kernel
theorem dX0_price_15 : decode cX0_price 15 = .ok (.iload_n 2, 1) := by decide +kernel
theorem dX0_price_16 : decode cX0_price 16 = .ok (.bipush 20, 2) := by decide +kernel
theorem dX0_price_18 : decode cX0_price 18 = .ok (.if_icmp .le 6, 3) := by decide +kernel
theorem dX0_price_21 : decode cX0_price 21 = .ok (.bipush (-2), 2) := by decide +kernel
theorem dX0_price_23 : decode cX0_price 23 = .ok (.ireturn, 1) := by decide +kernel
theorem dX0_price_24 : decode cX0_price 24 = .ok (.aload_n 0, 1) := by decide +kernel
theorem dX0_price_25 : decode cX0_price 25 = .ok (.getfield 13, 3) := by decide +kernel
theorem dX0_price_28 : decode cX0_price 28 = .ok (.iload_n 1, 1) := by decide +kernel
theorem dX0_price_29 : decode cX0_price 29 = .ok (.iaload, 1) := by decide +kernel
theorem dX0_price_30 : decode cX0_price 30 = .ok (.istore_n 3, 1) := by decide +kernel
theorem dX0_price_31 : decode cX0_price 31 = .ok (.aload_n 0, 1) := by decide +kernel
theorem dX0_price_32 : decode cX0_price 32 = .ok (.getfield 13, 3) := by decide +kernel
theorem dX0_price_35 : decode cX0_price 35 = .ok (.iload_n 1, 1) := by decide +kernel
theorem dX0_price_36 : decode cX0_price 36 = .ok (.iload_n 2, 1) := by decide +kernel
theorem dX0_price_37 : decode cX0_price 37 = .ok (.iastore, 1) := by decide +kernel
theorem dX0_price_38 : decode cX0_price 38 = .ok (.iload_n 3, 1) := by decide +kernel
theorem dX0_price_39 : decode cX0_price 39 = .ok (.ireturn, 1) := by decide +kernel
abbrev cX0_conditions : ByteArray := prog_1_method_7_code
def yX0_conditions : MethodName := ⟨RX0, "conditions", "()I"⟩
theorem dX0_conditions_0 : decode cX0_conditions 0 = .ok (.aload_n 0, 1) := by decide +kernel
theorem dX0_conditions_1 : decode cX0_conditions 1 = .ok (.getfield 28, 3) := by decide +kernel
theorem dX0_conditions_4 : decode cX0_conditions 4 = .ok (.ireturn, 1) := by decide +kernel
abbrev cX0_possible : ByteArray := prog_1_method_8_code
def yX0_possible : MethodName := ⟨RX0, "possible", "(I)I"⟩
theorem dX0_possible_0 : decode cX0_possible 0 = .ok (.aload_n 0, 1) := by decide +kernel
theorem dX0_possible_1 : decode cX0_possible 1 = .ok (.iload_n 1, 1) := by decide +kernel
theorem dX0_possible_2 : decode cX0_possible 2 = .ok (.invokevirtual 47, 3) := by decide +kernel
theorem dX0_possible_5 : decode cX0_possible 5 = .ok (.ifCond .ne 5, 3) := by decide +kernel
theorem dX0_possible_8 : decode cX0_possible 8 = .ok (.iconst (-1), 1) := by decide +kernel
theorem dX0_possible_9 : decode cX0_possible 9 = .ok (.ireturn, 1) := by decide +kernel
theorem dX0_possible_10 : decode cX0_possible 10 = .ok (.aload_n 0, 1) := by decide +kernel
theorem dX0_possible_11 : decode cX0_possible 11 = .ok (.iload_n 1, 1) := by decide +kernel
theorem dX0_possible_12 : decode cX0_possible 12 = .ok (.invokevirtual 50, 3) := by decide +kernel
theorem dX0_possible_15 : decode cX0_possible 15 = .ok (.ifCond .eq 7, 3) := by decide +kernel
theorem dX0_possible_18 : decode cX0_possible 18 = .ok (.iconst 1, 1) := by decide +kernel
theorem dX0_possible_19 : decode cX0_possible 19 = .ok (.goto 4, 3) := by decide +kernel
theorem dX0_possible_22 : decode cX0_possible 22 = .ok (.iconst 0, 1) := by decide +kernel
theorem dX0_possible_23 : decode cX0_possible 23 = .ok (.ireturn, 1) := by decide +kernel
abbrev cX0_isSet : ByteArray := prog_1_method_22_code
def yX0_isSet : MethodName := ⟨RX0, "isSet", "(I)Z"⟩
theorem dX0_isSet_0 : decode cX0_isSet 0 = .ok (.iload_n 1, 1) := by decide +kernel
theorem dX0_isSet_1 : decode cX0_isSet 1 = .ok (.ifCond .lt 17, 3) := by decide +kernel
theorem dX0_isSet_4 : decode cX0_isSet 4 = .ok (.iload_n 1, 1) := by decide +kernel
theorem dX0_isSet_5 : decode cX0_isSet 5 = .ok (.iconst 1, 1) := by decide +kernel
theorem dX0_isSet_6 : decode cX0_isSet 6 = .ok (.aload_n 0, 1) := by decide +kernel
theorem dX0_isSet_7 : decode cX0_isSet 7 = .ok (.getfield 28, 3) := by decide +kernel
theorem dX0_isSet_10 : decode cX0_isSet 10 = .ok (.ishl, 1) := by decide +kernel
theorem dX0_isSet_11 : decode cX0_isSet 11 = .ok (.if_icmp .ge 7, 3) := by decide +kernel
theorem dX0_isSet_14 : decode cX0_isSet 14 = .ok (.iconst 1, 1) := by decide +kernel
theorem dX0_isSet_15 : decode cX0_isSet 15 = .ok (.goto 4, 3) := by decide +kernel
theorem dX0_isSet_18 : decode cX0_isSet 18 = .ok (.iconst 0, 1) := by decide +kernel
theorem dX0_isSet_19 : decode cX0_isSet 19 = .ok (.ireturn, 1) := by decide +kernel
abbrev cX0_common : ByteArray := prog_1_method_26_code
def yX0_common : MethodName := ⟨RX0, "common", "(I)I"⟩
theorem dX0_common_0 : decode cX0_common 0 = .ok (.iconst (-1), 1) := by decide +kernel
theorem dX0_common_1 : decode cX0_common 1 = .ok (.istore_n 2, 1) := by decide +kernel
theorem dX0_common_2 : decode cX0_common 2 = .ok (.iconst 0, 1) := by decide +kernel
theorem dX0_common_3 : decode cX0_common 3 = .ok (.istore_n 3, 1) := by decide +kernel
theorem dX0_common_4 : decode cX0_common 4 = .ok (.iload_n 3, 1) := by decide +kernel
theorem dX0_common_5 : decode cX0_common 5 = .ok (.aload_n 0, 1) := by decide +kernel
theorem dX0_common_6 : decode cX0_common 6 = .ok (.getfield 28, 3) := by decide +kernel
theorem dX0_common_9 : decode cX0_common 9 = .ok (.if_icmp .ge 27, 3) := by decide +kernel
theorem dX0_common_12 : decode cX0_common 12 = .ok (.iload_n 1, 1) := by decide +kernel
theorem dX0_common_13 : decode cX0_common 13 = .ok (.iload_n 3, 1) := by decide +kernel
theorem dX0_common_14 : decode cX0_common 14 = .ok (.ishr, 1) := by decide +kernel
theorem dX0_common_15 : decode cX0_common 15 = .ok (.iconst 1, 1) := by decide +kernel
theorem dX0_common_16 : decode cX0_common 16 = .ok (.iand, 1) := by decide +kernel
theorem dX0_common_17 : decode cX0_common 17 = .ok (.iconst 1, 1) := by decide +kernel
theorem dX0_common_18 : decode cX0_common 18 = .ok (.if_icmp .ne 12, 3) := by decide +kernel
theorem dX0_common_21 : decode cX0_common 21 = .ok (.iload_n 2, 1) := by decide +kernel
theorem dX0_common_22 : decode cX0_common 22 = .ok (.aload_n 0, 1) := by decide +kernel
theorem dX0_common_23 : decode cX0_common 23 = .ok (.getfield 7, 3) := by decide +kernel
theorem dX0_common_26 : decode cX0_common 26 = .ok (.iload_n 3, 1) := by decide +kernel
theorem dX0_common_27 : decode cX0_common 27 = .ok (.iaload, 1) := by decide +kernel
theorem dX0_common_28 : decode cX0_common 28 = .ok (.iand, 1) := by decide +kernel
theorem dX0_common_29 : decode cX0_common 29 = .ok (.istore_n 2, 1) := by decide +kernel
theorem dX0_common_30 : decode cX0_common 30 = .ok (.iinc 3 1, 3) := by decide +kernel
theorem dX0_common_33 : decode cX0_common 33 = .ok (.goto (-29), 3) := by decide +kernel
theorem dX0_common_36 : decode cX0_common 36 = .ok (.iload_n 2, 1) := by decide +kernel
theorem dX0_common_37 : decode cX0_common 37 = .ok (.ireturn, 1) := by decide +kernel
abbrev cX0_model : ByteArray := prog_1_method_9_code
def yX0_model : MethodName := ⟨RX0, "model", "(I)I"⟩
theorem dX0_model_0 : decode cX0_model 0 = .ok (.aload_n 0, 1) := by decide +kernel
theorem dX0_model_1 : decode cX0_model 1 = .ok (.iload_n 1, 1) := by decide +kernel
theorem dX0_model_2 : decode cX0_model 2 = .ok (.invokevirtual 47, 3) := by decide +kernel
theorem dX0_model_5 : decode cX0_model 5 = .ok (.ifCond .ne 5, 3) := by decide +kernel
theorem dX0_model_8 : decode cX0_model 8 = .ok (.iconst (-1), 1) := by decide +kernel
theorem dX0_model_9 : decode cX0_model 9 = .ok (.ireturn, 1) := by decide +kernel
theorem dX0_model_10 : decode cX0_model 10 = .ok (.aload_n 0, 1) := by decide +kernel
theorem dX0_model_11 : decode cX0_model 11 = .ok (.iload_n 1, 1) := by decide +kernel
theorem dX0_model_12 : decode cX0_model 12 = .ok (.invokevirtual 50, 3) := by decide +kernel
theorem dX0_model_15 : decode cX0_model 15 = .ok (.istore_n 2, 1) := by decide +kernel
theorem dX0_model_16 : decode cX0_model 16 = .ok (.iconst 0, 1) := by decide +kernel
theorem dX0_model_17 : decode cX0_model 17 = .ok (.istore_n 3, 1) := by decide +kernel
theorem dX0_model_18 : decode cX0_model 18 = .ok (.iload_n 3, 1) := by decide +kernel
theorem dX0_model_19 : decode cX0_model 19 = .ok (.bipush 32, 2) := by decide +kernel
theorem dX0_model_21 : decode cX0_model 21 = .ok (.if_icmp .ge 20, 3) := by decide +kernel
theorem dX0_model_24 : decode cX0_model 24 = .ok (.iload_n 2, 1) := by decide +kernel
theorem dX0_model_25 : decode cX0_model 25 = .ok (.iload_n 3, 1) := by decide +kernel
theorem dX0_model_26 : decode cX0_model 26 = .ok (.iushr, 1) := by decide +kernel
theorem dX0_model_27 : decode cX0_model 27 = .ok (.iconst 1, 1) := by decide +kernel
theorem dX0_model_28 : decode cX0_model 28 = .ok (.iand, 1) := by decide +kernel
theorem dX0_model_29 : decode cX0_model 29 = .ok (.iconst 1, 1) := by decide +kernel
theorem dX0_model_30 : decode cX0_model 30 = .ok (.if_icmp .ne 5, 3) := by decide +kernel
theorem dX0_model_33 : decode cX0_model 33 = .ok (.iload_n 3, 1) := by decide +kernel
theorem dX0_model_34 : decode cX0_model 34 = .ok (.ireturn, 1) := by decide +kernel
theorem dX0_model_35 : decode cX0_model 35 = .ok (.iinc 3 1, 3) := by decide +kernel
theorem dX0_model_38 : decode cX0_model 38 = .ok (.goto (-20), 3) := by decide +kernel
theorem dX0_model_41 : decode cX0_model 41 = .ok (.bipush (-2), 2) := by decide +kernel
theorem dX0_model_43 : decode cX0_model 43 = .ok (.ireturn, 1) := by decide +kernel
abbrev cX0_kernels : ByteArray := prog_1_method_10_code
def yX0_kernels : MethodName := ⟨RX0, "kernels", "()I"⟩
theorem dX0_kernels_0 : decode cX0_kernels 0 = .ok (.aload_n 0, 1) := by decide +kernel
theorem dX0_kernels_1 : decode cX0_kernels 1 = .ok (.invokevirtual 53, 3) := by decide +kernel
theorem dX0_kernels_4 : decode cX0_kernels 4 = .ok (.aload_n 0, 1) := by decide +kernel
theorem dX0_kernels_5 : decode cX0_kernels 5 = .ok (.getfield 56, 3) := by decide +kernel
theorem dX0_kernels_8 : decode cX0_kernels 8 = .ok (.ireturn, 1) := by decide +kernel
abbrev cX0_solve : ByteArray := prog_1_method_29_code
def yX0_solve : MethodName := ⟨RX0, "solve", "()V"⟩
theorem dX0_solve_0 : decode cX0_solve 0 = .ok (.aload_n 0, 1) := by decide +kernel
theorem dX0_solve_1 : decode cX0_solve 1 = .ok (.getfield 39, 3) := by decide +kernel
theorem dX0_solve_4 : decode cX0_solve 4 = .ok (.ifCond .eq 4, 3) := by decide +kernel
theorem dX0_solve_7 : decode cX0_solve 7 = .ok (.return_, 1) := by decide +kernel
theorem dX0_solve_8 : decode cX0_solve 8 = .ok (.aload_n 0, 1) := by decide +kernel
theorem dX0_solve_9 : decode cX0_solve 9 = .ok (.iconst 1, 1) := by decide +kernel
theorem dX0_solve_10 : decode cX0_solve 10 = .ok (.putfield 39, 3) := by decide +kernel
theorem dX0_solve_13 : decode cX0_solve 13 = .ok (.aload_n 0, 1) := by decide +kernel
theorem dX0_solve_14 : decode cX0_solve 14 = .ok (.iconst 0, 1) := by decide +kernel
theorem dX0_solve_15 : decode cX0_solve 15 = .ok (.putfield 56, 3) := by decide +kernel
theorem dX0_solve_18 : decode cX0_solve 18 = .ok (.aload_n 0, 1) := by decide +kernel
theorem dX0_solve_19 : decode cX0_solve 19 = .ok (.iconst 0, 1) := by decide +kernel
theorem dX0_solve_20 : decode cX0_solve 20 = .ok (.putfield 59, 3) := by decide +kernel
theorem dX0_solve_23 : decode cX0_solve 23 = .ok (.iconst 0, 1) := by decide +kernel
theorem dX0_solve_24 : decode cX0_solve 24 = .ok (.istore_n 1, 1) := by decide +kernel
theorem dX0_solve_25 : decode cX0_solve 25 = .ok (.iload_n 1, 1) := by decide +kernel
theorem dX0_solve_26 : decode cX0_solve 26 = .ok (.bipush 16, 2) := by decide +kernel
theorem dX0_solve_28 : decode cX0_solve 28 = .ok (.if_icmp .ge 16, 3) := by decide +kernel
theorem dX0_solve_31 : decode cX0_solve 31 = .ok (.aload_n 0, 1) := by decide +kernel
theorem dX0_solve_32 : decode cX0_solve 32 = .ok (.getfield 25, 3) := by decide +kernel
theorem dX0_solve_35 : decode cX0_solve 35 = .ok (.iload_n 1, 1) := by decide +kernel
theorem dX0_solve_36 : decode cX0_solve 36 = .ok (.iconst (-1), 1) := by decide +kernel
theorem dX0_solve_37 : decode cX0_solve 37 = .ok (.iastore, 1) := by decide +kernel
theorem dX0_solve_38 : decode cX0_solve 38 = .ok (.iinc 1 1, 3) := by decide +kernel
theorem dX0_solve_41 : decode cX0_solve 41 = .ok (.goto (-16), 3) := by decide +kernel
theorem dX0_solve_44 : decode cX0_solve 44 = .ok (.iconst 1, 1) := by decide +kernel
theorem dX0_solve_45 : decode cX0_solve 45 = .ok (.aload_n 0, 1) := by decide +kernel
theorem dX0_solve_46 : decode cX0_solve 46 = .ok (.getfield 28, 3) := by decide +kernel
theorem dX0_solve_49 : decode cX0_solve 49 = .ok (.ishl, 1) := by decide +kernel
theorem dX0_solve_50 : decode cX0_solve 50 = .ok (.iconst 1, 1) := by decide +kernel
theorem dX0_solve_51 : decode cX0_solve 51 = .ok (.isub, 1) := by decide +kernel
theorem dX0_solve_52 : decode cX0_solve 52 = .ok (.istore_n 1, 1) := by decide +kernel
theorem dX0_solve_53 : decode cX0_solve 53 = .ok (.iload_n 1, 1) := by decide +kernel
theorem dX0_solve_54 : decode cX0_solve 54 = .ok (.istore_n 2, 1) := by decide +kernel
theorem dX0_solve_55 : decode cX0_solve 55 = .ok (.iload_n 2, 1) := by decide +kernel
theorem dX0_solve_56 : decode cX0_solve 56 = .ok (.ifCond .lt 66, 3) := by decide +kernel
theorem dX0_solve_59 : decode cX0_solve 59 = .ok (.aload_n 0, 1) := by decide +kernel
theorem dX0_solve_60 : decode cX0_solve 60 = .ok (.iload_n 2, 1) := by decide +kernel
theorem dX0_solve_61 : decode cX0_solve 61 = .ok (.invokevirtual 72, 3) := by decide +kernel
theorem dX0_solve_64 : decode cX0_solve 64 = .ok (.ifCond .eq 52, 3) := by decide +kernel
theorem dX0_solve_67 : decode cX0_solve 67 = .ok (.aload_n 0, 1) := by decide +kernel
theorem dX0_solve_68 : decode cX0_solve 68 = .ok (.iload_n 2, 1) := by decide +kernel
theorem dX0_solve_69 : decode cX0_solve 69 = .ok (.invokevirtual 50, 3) := by decide +kernel
theorem dX0_solve_72 : decode cX0_solve 72 = .ok (.ifCond .eq 27, 3) := by decide +kernel
theorem dX0_solve_75 : decode cX0_solve 75 = .ok (.aload_n 0, 1) := by decide +kernel
theorem dX0_solve_76 : decode cX0_solve 76 = .ok (.iload_n 2, 1) := by decide +kernel
theorem dX0_solve_77 : decode cX0_solve 77 = .ok (.iload_n 1, 1) := by decide +kernel
theorem dX0_solve_78 : decode cX0_solve 78 = .ok (.invokevirtual 75, 3) := by decide +kernel
theorem dX0_solve_81 : decode cX0_solve 81 = .ok (.istore_n 3, 1) := by decide +kernel
theorem dX0_solve_82 : decode cX0_solve 82 = .ok (.aload_n 0, 1) := by decide +kernel
theorem dX0_solve_83 : decode cX0_solve 83 = .ok (.iload_n 1, 1) := by decide +kernel
theorem dX0_solve_84 : decode cX0_solve 84 = .ok (.iload_n 3, 1) := by decide +kernel
theorem dX0_solve_85 : decode cX0_solve 85 = .ok (.iconst (-1), 1) := by decide +kernel
theorem dX0_solve_86 : decode cX0_solve 86 = .ok (.ixor, 1) := by decide +kernel
theorem dX0_solve_87 : decode cX0_solve 87 = .ok (.iand, 1) := by decide +kernel
theorem dX0_solve_88 : decode cX0_solve 88 = .ok (.invokevirtual 79, 3) := by decide +kernel
theorem dX0_solve_91 : decode cX0_solve 91 = .ok (.aload_n 0, 1) := by decide +kernel
theorem dX0_solve_92 : decode cX0_solve 92 = .ok (.iload_n 3, 1) := by decide +kernel
theorem dX0_solve_93 : decode cX0_solve 93 = .ok (.invokevirtual 83, 3) := by decide +kernel
theorem dX0_solve_96 : decode cX0_solve 96 = .ok (.goto 20, 3) := by decide +kernel
theorem dX0_solve_99 : decode cX0_solve 99 = .ok (.aload_n 0, 1) := by decide +kernel
theorem dX0_solve_100 : decode cX0_solve 100 = .ok (.iload_n 2, 1) := by decide +kernel
theorem dX0_solve_101 : decode cX0_solve 101 = .ok (.invokevirtual 86, 3) := by decide +kernel
theorem dX0_solve_104 : decode cX0_solve 104 = .ok (.istore_n 3, 1) := by decide +kernel
theorem dX0_solve_105 : decode cX0_solve 105 = .ok (.aload_n 0, 1) := by decide +kernel
theorem dX0_solve_106 : decode cX0_solve 106 = .ok (.iload_n 3, 1) := by decide +kernel
theorem dX0_solve_107 : decode cX0_solve 107 = .ok (.invokevirtual 89, 3) := by decide +kernel
theorem dX0_solve_110 : decode cX0_solve 110 = .ok (.aload_n 0, 1) := by decide +kernel
theorem dX0_solve_111 : decode cX0_solve 111 = .ok (.iload_n 3, 1) := by decide +kernel
theorem dX0_solve_112 : decode cX0_solve 112 = .ok (.iload_n 1, 1) := by decide +kernel
theorem dX0_solve_113 : decode cX0_solve 113 = .ok (.invokevirtual 92, 3) := by decide +kernel
theorem dX0_solve_116 : decode cX0_solve 116 = .ok (.iinc 2 (-1), 3) := by decide +kernel
theorem dX0_solve_119 : decode cX0_solve 119 = .ok (.goto (-64), 3) := by decide +kernel
theorem dX0_solve_122 : decode cX0_solve 122 = .ok (.return_, 1) := by decide +kernel
abbrev cX0_waits : ByteArray := prog_1_method_27_code
def yX0_waits : MethodName := ⟨RX0, "waits", "(I)Z"⟩
theorem dX0_waits_0 : decode cX0_waits 0 = .ok (.aload_n 0, 1) := by decide +kernel
theorem dX0_waits_1 : decode cX0_waits 1 = .ok (.getfield 25, 3) := by decide +kernel
theorem dX0_waits_4 : decode cX0_waits 4 = .ok (.iload_n 1, 1) := by decide +kernel
theorem dX0_waits_5 : decode cX0_waits 5 = .ok (.iconst 5, 1) := by decide +kernel
theorem dX0_waits_6 : decode cX0_waits 6 = .ok (.ishr, 1) := by decide +kernel
theorem dX0_waits_7 : decode cX0_waits 7 = .ok (.iaload, 1) := by decide +kernel
theorem dX0_waits_8 : decode cX0_waits 8 = .ok (.iload_n 1, 1) := by decide +kernel
theorem dX0_waits_9 : decode cX0_waits 9 = .ok (.bipush 31, 2) := by decide +kernel
theorem dX0_waits_11 : decode cX0_waits 11 = .ok (.iand, 1) := by decide +kernel
theorem dX0_waits_12 : decode cX0_waits 12 = .ok (.iushr, 1) := by decide +kernel
theorem dX0_waits_13 : decode cX0_waits 13 = .ok (.iconst 1, 1) := by decide +kernel
theorem dX0_waits_14 : decode cX0_waits 14 = .ok (.iand, 1) := by decide +kernel
theorem dX0_waits_15 : decode cX0_waits 15 = .ok (.iconst 1, 1) := by decide +kernel
theorem dX0_waits_16 : decode cX0_waits 16 = .ok (.if_icmp .ne 7, 3) := by decide +kernel
theorem dX0_waits_19 : decode cX0_waits 19 = .ok (.iconst 1, 1) := by decide +kernel
theorem dX0_waits_20 : decode cX0_waits 20 = .ok (.goto 4, 3) := by decide +kernel
theorem dX0_waits_23 : decode cX0_waits 23 = .ok (.iconst 0, 1) := by decide +kernel
theorem dX0_waits_24 : decode cX0_waits 24 = .ok (.ireturn, 1) := by decide +kernel
abbrev cX0_grow : ByteArray := prog_1_method_30_code
def yX0_grow : MethodName := ⟨RX0, "grow", "(II)I"⟩
theorem dX0_grow_0 : decode cX0_grow 0 = .ok (.iload_n 1, 1) := by decide +kernel
theorem dX0_grow_1 : decode cX0_grow 1 = .ok (.istore_n 3, 1) := by decide +kernel
theorem dX0_grow_2 : decode cX0_grow 2 = .ok (.iconst 0, 1) := by decide +kernel
theorem dX0_grow_3 : decode cX0_grow 3 = .ok (.istore 4, 2) := by decide +kernel
theorem dX0_grow_5 : decode cX0_grow 5 = .ok (.iload 4, 2) := by decide +kernel
theorem dX0_grow_7 : decode cX0_grow 7 = .ok (.aload_n 0, 1) := by decide +kernel
theorem dX0_grow_8 : decode cX0_grow 8 = .ok (.getfield 28, 3) := by decide +kernel
theorem dX0_grow_11 : decode cX0_grow 11 = .ok (.if_icmp .ge 29, 3) := by decide +kernel
theorem dX0_grow_14 : decode cX0_grow 14 = .ok (.iload_n 3, 1) := by decide +kernel
theorem dX0_grow_15 : decode cX0_grow 15 = .ok (.iconst 1, 1) := by decide +kernel
theorem dX0_grow_16 : decode cX0_grow 16 = .ok (.iload 4, 2) := by decide +kernel
theorem dX0_grow_18 : decode cX0_grow 18 = .ok (.ishl, 1) := by decide +kernel
theorem dX0_grow_19 : decode cX0_grow 19 = .ok (.ior, 1) := by decide +kernel
theorem dX0_grow_20 : decode cX0_grow 20 = .ok (.istore 5, 2) := by decide +kernel
theorem dX0_grow_22 : decode cX0_grow 22 = .ok (.aload_n 0, 1) := by decide +kernel
theorem dX0_grow_23 : decode cX0_grow 23 = .ok (.iload 5, 2) := by decide +kernel
theorem dX0_grow_25 : decode cX0_grow 25 = .ok (.invokevirtual 50, 3) := by decide +kernel
theorem dX0_grow_28 : decode cX0_grow 28 = .ok (.ifCond .eq 6, 3) := by decide +kernel
theorem dX0_grow_31 : decode cX0_grow 31 = .ok (.iload 5, 2) := by decide +kernel
theorem dX0_grow_33 : decode cX0_grow 33 = .ok (.istore_n 3, 1) := by decide +kernel
theorem dX0_grow_34 : decode cX0_grow 34 = .ok (.iinc 4 1, 3) := by decide +kernel
theorem dX0_grow_37 : decode cX0_grow 37 = .ok (.goto (-32), 3) := by decide +kernel
theorem dX0_grow_40 : decode cX0_grow 40 = .ok (.iload_n 3, 1) := by decide +kernel
theorem dX0_grow_41 : decode cX0_grow 41 = .ok (.iload_n 2, 1) := by decide +kernel
theorem dX0_grow_42 : decode cX0_grow 42 = .ok (.iand, 1) := by decide +kernel
theorem dX0_grow_43 : decode cX0_grow 43 = .ok (.ireturn, 1) := by decide +kernel
abbrev cX0_putFix : ByteArray := prog_1_method_35_code
def yX0_putFix : MethodName := ⟨RX0, "putFix", "(I)V"⟩
theorem dX0_putFix_0 : decode cX0_putFix 0 = .ok (.aload_n 0, 1) := by decide +kernel
theorem dX0_putFix_1 : decode cX0_putFix 1 = .ok (.getfield 59, 3) := by decide +kernel
theorem dX0_putFix_4 : decode cX0_putFix 4 = .ok (.istore_n 2, 1) := by decide +kernel
theorem dX0_putFix_5 : decode cX0_putFix 5 = .ok (.iload_n 2, 1) := by decide +kernel
theorem dX0_putFix_6 : decode cX0_putFix 6 = .ok (.ifCond .le 41, 3) := by decide +kernel
theorem dX0_putFix_9 : decode cX0_putFix 9 = .ok (.iload_n 2, 1) := by decide +kernel
theorem dX0_putFix_10 : decode cX0_putFix 10 = .ok (.bipush 126, 2) := by decide +kernel
theorem dX0_putFix_12 : decode cX0_putFix 12 = .ok (.if_icmp .ge 35, 3) := by decide +kernel
theorem dX0_putFix_15 : decode cX0_putFix 15 = .ok (.aload_n 0, 1) := by decide +kernel
theorem dX0_putFix_16 : decode cX0_putFix 16 = .ok (.getfield 22, 3) := by decide +kernel
theorem dX0_putFix_19 : decode cX0_putFix 19 = .ok (.iload_n 2, 1) := by decide +kernel
theorem dX0_putFix_20 : decode cX0_putFix 20 = .ok (.iconst 1, 1) := by decide +kernel
theorem dX0_putFix_21 : decode cX0_putFix 21 = .ok (.isub, 1) := by decide +kernel
theorem dX0_putFix_22 : decode cX0_putFix 22 = .ok (.iaload, 1) := by decide +kernel
theorem dX0_putFix_23 : decode cX0_putFix 23 = .ok (.iload_n 1, 1) := by decide +kernel
theorem dX0_putFix_24 : decode cX0_putFix 24 = .ok (.if_icmp .le 23, 3) := by decide +kernel
theorem dX0_putFix_27 : decode cX0_putFix 27 = .ok (.aload_n 0, 1) := by decide +kernel
theorem dX0_putFix_28 : decode cX0_putFix 28 = .ok (.getfield 22, 3) := by decide +kernel
theorem dX0_putFix_31 : decode cX0_putFix 31 = .ok (.iload_n 2, 1) := by decide +kernel
theorem dX0_putFix_32 : decode cX0_putFix 32 = .ok (.aload_n 0, 1) := by decide +kernel
theorem dX0_putFix_33 : decode cX0_putFix 33 = .ok (.getfield 22, 3) := by decide +kernel
theorem dX0_putFix_36 : decode cX0_putFix 36 = .ok (.iload_n 2, 1) := by decide +kernel
theorem dX0_putFix_37 : decode cX0_putFix 37 = .ok (.iconst 1, 1) := by decide +kernel
theorem dX0_putFix_38 : decode cX0_putFix 38 = .ok (.isub, 1) := by decide +kernel
theorem dX0_putFix_39 : decode cX0_putFix 39 = .ok (.iaload, 1) := by decide +kernel
theorem dX0_putFix_40 : decode cX0_putFix 40 = .ok (.iastore, 1) := by decide +kernel
theorem dX0_putFix_41 : decode cX0_putFix 41 = .ok (.iinc 2 (-1), 3) := by decide +kernel
theorem dX0_putFix_44 : decode cX0_putFix 44 = .ok (.goto (-39), 3) := by decide +kernel
theorem dX0_putFix_47 : decode cX0_putFix 47 = .ok (.aload_n 0, 1) := by decide +kernel
theorem dX0_putFix_48 : decode cX0_putFix 48 = .ok (.getfield 22, 3) := by decide +kernel
theorem dX0_putFix_51 : decode cX0_putFix 51 = .ok (.iload_n 2, 1) := by decide +kernel
theorem dX0_putFix_52 : decode cX0_putFix 52 = .ok (.iload_n 1, 1) := by decide +kernel
theorem dX0_putFix_53 : decode cX0_putFix 53 = .ok (.iastore, 1) := by decide +kernel
theorem dX0_putFix_54 : decode cX0_putFix 54 = .ok (.aload_n 0, 1) := by decide +kernel
theorem dX0_putFix_55 : decode cX0_putFix 55 = .ok (.dup, 1) := by decide +kernel
theorem dX0_putFix_56 : decode cX0_putFix 56 = .ok (.getfield 59, 3) := by decide +kernel
theorem dX0_putFix_59 : decode cX0_putFix 59 = .ok (.iconst 1, 1) := by decide +kernel
theorem dX0_putFix_60 : decode cX0_putFix 60 = .ok (.iadd, 1) := by decide +kernel
theorem dX0_putFix_61 : decode cX0_putFix 61 = .ok (.putfield 59, 3) := by decide +kernel
theorem dX0_putFix_64 : decode cX0_putFix 64 = .ok (.return_, 1) := by decide +kernel
abbrev cX0_takeParts : ByteArray := prog_1_method_32_code
def yX0_takeParts : MethodName := ⟨RX0, "takeParts", "(I)V"⟩
theorem dX0_takeParts_0 : decode cX0_takeParts 0 = .ok (.iload_n 1, 1) := by decide +kernel
theorem dX0_takeParts_1 : decode cX0_takeParts 1 = .ok (.istore_n 2, 1) := by decide +kernel
theorem dX0_takeParts_2 : decode cX0_takeParts 2 = .ok (.iconst 0, 1) := by decide +kernel
theorem dX0_takeParts_3 : decode cX0_takeParts 3 = .ok (.istore_n 3, 1) := by decide +kernel
theorem dX0_takeParts_4 : decode cX0_takeParts 4 = .ok (.iload_n 3, 1) := by decide +kernel
theorem dX0_takeParts_5 : decode cX0_takeParts 5 = .ok (.sipush 512, 3) := by decide +kernel
theorem dX0_takeParts_8 : decode cX0_takeParts 8 = .ok (.if_icmp .ge 27, 3) := by decide +kernel
theorem dX0_takeParts_11 : decode cX0_takeParts 11 = .ok (.aload_n 0, 1) := by decide +kernel
theorem dX0_takeParts_12 : decode cX0_takeParts 12 = .ok (.iload_n 2, 1) := by decide +kernel
theorem dX0_takeParts_13 : decode cX0_takeParts 13 = .ok (.invokevirtual 96, 3) := by decide +kernel
theorem dX0_takeParts_16 : decode cX0_takeParts 16 = .ok (.iload_n 2, 1) := by decide +kernel
theorem dX0_takeParts_17 : decode cX0_takeParts 17 = .ok (.ifCond .ne 6, 3) := by decide +kernel
theorem dX0_takeParts_20 : decode cX0_takeParts 20 = .ok (.goto 15, 3) := by decide +kernel
theorem dX0_takeParts_23 : decode cX0_takeParts 23 = .ok (.iload_n 2, 1) := by decide +kernel
theorem dX0_takeParts_24 : decode cX0_takeParts 24 = .ok (.iconst 1, 1) := by decide +kernel
theorem dX0_takeParts_25 : decode cX0_takeParts 25 = .ok (.isub, 1) := by decide +kernel
theorem dX0_takeParts_26 : decode cX0_takeParts 26 = .ok (.iload_n 1, 1) := by decide +kernel
theorem dX0_takeParts_27 : decode cX0_takeParts 27 = .ok (.iand, 1) := by decide +kernel
theorem dX0_takeParts_28 : decode cX0_takeParts 28 = .ok (.istore_n 2, 1) := by decide +kernel
theorem dX0_takeParts_29 : decode cX0_takeParts 29 = .ok (.iinc 3 1, 3) := by decide +kernel
theorem dX0_takeParts_32 : decode cX0_takeParts 32 = .ok (.goto (-28), 3) := by decide +kernel
theorem dX0_takeParts_35 : decode cX0_takeParts 35 = .ok (.return_, 1) := by decide +kernel
abbrev cX0_takeOff : ByteArray := prog_1_method_28_code
def yX0_takeOff : MethodName := ⟨RX0, "takeOff", "(I)V"⟩
theorem dX0_takeOff_0 : decode cX0_takeOff 0 = .ok (.aload_n 0, 1) := by decide +kernel
theorem dX0_takeOff_1 : decode cX0_takeOff 1 = .ok (.getfield 25, 3) := by decide +kernel
theorem dX0_takeOff_4 : decode cX0_takeOff 4 = .ok (.iload_n 1, 1) := by decide +kernel
theorem dX0_takeOff_5 : decode cX0_takeOff 5 = .ok (.iconst 5, 1) := by decide +kernel
theorem dX0_takeOff_6 : decode cX0_takeOff 6 = .ok (.ishr, 1) := by decide +kernel
theorem dX0_takeOff_7 : decode cX0_takeOff 7 = .ok (.aload_n 0, 1) := by decide +kernel
theorem dX0_takeOff_8 : decode cX0_takeOff 8 = .ok (.getfield 25, 3) := by decide +kernel
theorem dX0_takeOff_11 : decode cX0_takeOff 11 = .ok (.iload_n 1, 1) := by decide +kernel
theorem dX0_takeOff_12 : decode cX0_takeOff 12 = .ok (.iconst 5, 1) := by decide +kernel
theorem dX0_takeOff_13 : decode cX0_takeOff 13 = .ok (.ishr, 1) := by decide +kernel
theorem dX0_takeOff_14 : decode cX0_takeOff 14 = .ok (.iaload, 1) := by decide +kernel
theorem dX0_takeOff_15 : decode cX0_takeOff 15 = .ok (.iconst 1, 1) := by decide +kernel
theorem dX0_takeOff_16 : decode cX0_takeOff 16 = .ok (.iload_n 1, 1) := by decide +kernel
theorem dX0_takeOff_17 : decode cX0_takeOff 17 = .ok (.bipush 31, 2) := by decide +kernel
theorem dX0_takeOff_19 : decode cX0_takeOff 19 = .ok (.iand, 1) := by decide +kernel
theorem dX0_takeOff_20 : decode cX0_takeOff 20 = .ok (.ishl, 1) := by decide +kernel
theorem dX0_takeOff_21 : decode cX0_takeOff 21 = .ok (.iconst (-1), 1) := by decide +kernel
theorem dX0_takeOff_22 : decode cX0_takeOff 22 = .ok (.ixor, 1) := by decide +kernel
theorem dX0_takeOff_23 : decode cX0_takeOff 23 = .ok (.iand, 1) := by decide +kernel
theorem dX0_takeOff_24 : decode cX0_takeOff 24 = .ok (.iastore, 1) := by decide +kernel
theorem dX0_takeOff_25 : decode cX0_takeOff 25 = .ok (.return_, 1) := by decide +kernel
abbrev cX0_shrink : ByteArray := prog_1_method_31_code
def yX0_shrink : MethodName := ⟨RX0, "shrink", "(I)I"⟩
theorem dX0_shrink_0 : decode cX0_shrink 0 = .ok (.iload_n 1, 1) := by decide +kernel
theorem dX0_shrink_1 : decode cX0_shrink 1 = .ok (.istore_n 2, 1) := by decide +kernel
theorem dX0_shrink_2 : decode cX0_shrink 2 = .ok (.iconst 0, 1) := by decide +kernel
theorem dX0_shrink_3 : decode cX0_shrink 3 = .ok (.istore_n 3, 1) := by decide +kernel
theorem dX0_shrink_4 : decode cX0_shrink 4 = .ok (.iload_n 3, 1) := by decide +kernel
theorem dX0_shrink_5 : decode cX0_shrink 5 = .ok (.aload_n 0, 1) := by decide +kernel
theorem dX0_shrink_6 : decode cX0_shrink 6 = .ok (.getfield 28, 3) := by decide +kernel
theorem dX0_shrink_9 : decode cX0_shrink 9 = .ok (.if_icmp .ge 30, 3) := by decide +kernel
theorem dX0_shrink_12 : decode cX0_shrink 12 = .ok (.iload_n 2, 1) := by decide +kernel
theorem dX0_shrink_13 : decode cX0_shrink 13 = .ok (.iconst 1, 1) := by decide +kernel
theorem dX0_shrink_14 : decode cX0_shrink 14 = .ok (.iload_n 3, 1) := by decide +kernel
theorem dX0_shrink_15 : decode cX0_shrink 15 = .ok (.ishl, 1) := by decide +kernel
theorem dX0_shrink_16 : decode cX0_shrink 16 = .ok (.iconst (-1), 1) := by decide +kernel
theorem dX0_shrink_17 : decode cX0_shrink 17 = .ok (.ixor, 1) := by decide +kernel
theorem dX0_shrink_18 : decode cX0_shrink 18 = .ok (.iand, 1) := by decide +kernel
theorem dX0_shrink_19 : decode cX0_shrink 19 = .ok (.istore 4, 2) := by decide +kernel
theorem dX0_shrink_21 : decode cX0_shrink 21 = .ok (.aload_n 0, 1) := by decide +kernel
theorem dX0_shrink_22 : decode cX0_shrink 22 = .ok (.iload 4, 2) := by decide +kernel
theorem dX0_shrink_24 : decode cX0_shrink 24 = .ok (.invokevirtual 50, 3) := by decide +kernel
theorem dX0_shrink_27 : decode cX0_shrink 27 = .ok (.ifCond .ne 6, 3) := by decide +kernel
theorem dX0_shrink_30 : decode cX0_shrink 30 = .ok (.iload 4, 2) := by decide +kernel
theorem dX0_shrink_32 : decode cX0_shrink 32 = .ok (.istore_n 2, 1) := by decide +kernel
theorem dX0_shrink_33 : decode cX0_shrink 33 = .ok (.iinc 3 1, 3) := by decide +kernel
theorem dX0_shrink_36 : decode cX0_shrink 36 = .ok (.goto (-32), 3) := by decide +kernel
theorem dX0_shrink_39 : decode cX0_shrink 39 = .ok (.iload_n 2, 1) := by decide +kernel
theorem dX0_shrink_40 : decode cX0_shrink 40 = .ok (.ireturn, 1) := by decide +kernel
abbrev cX0_putKernel : ByteArray := prog_1_method_34_code
def yX0_putKernel : MethodName := ⟨RX0, "putKernel", "(I)V"⟩
theorem dX0_putKernel_0 : decode cX0_putKernel 0 = .ok (.aload_n 0, 1) := by decide +kernel
theorem dX0_putKernel_1 : decode cX0_putKernel 1 = .ok (.getfield 56, 3) := by decide +kernel
theorem dX0_putKernel_4 : decode cX0_putKernel 4 = .ok (.istore_n 2, 1) := by decide +kernel
theorem dX0_putKernel_5 : decode cX0_putKernel 5 = .ok (.iload_n 2, 1) := by decide +kernel
theorem dX0_putKernel_6 : decode cX0_putKernel 6 = .ok (.ifCond .le 41, 3) := by decide +kernel
theorem dX0_putKernel_9 : decode cX0_putKernel 9 = .ok (.iload_n 2, 1) := by decide +kernel
theorem dX0_putKernel_10 : decode cX0_putKernel 10 = .ok (.bipush 126, 2) := by decide +kernel
theorem dX0_putKernel_12 : decode cX0_putKernel 12 = .ok (.if_icmp .ge 35, 3) := by decide +kernel
theorem dX0_putKernel_15 : decode cX0_putKernel 15 = .ok (.aload_n 0, 1) := by decide +kernel
theorem dX0_putKernel_16 : decode cX0_putKernel 16 = .ok (.getfield 19, 3) := by decide +kernel
theorem dX0_putKernel_19 : decode cX0_putKernel 19 = .ok (.iload_n 2, 1) := by decide +kernel
theorem dX0_putKernel_20 : decode cX0_putKernel 20 = .ok (.iconst 1, 1) := by decide +kernel
theorem dX0_putKernel_21 : decode cX0_putKernel 21 = .ok (.isub, 1) := by decide +kernel
theorem dX0_putKernel_22 : decode cX0_putKernel 22 = .ok (.iaload, 1) := by decide +kernel
theorem dX0_putKernel_23 : decode cX0_putKernel 23 = .ok (.iload_n 1, 1) := by decide +kernel
theorem dX0_putKernel_24 : decode cX0_putKernel 24 = .ok (.if_icmp .le 23, 3) := by decide +kernel
theorem dX0_putKernel_27 : decode cX0_putKernel 27 = .ok (.aload_n 0, 1) := by decide +kernel
theorem dX0_putKernel_28 : decode cX0_putKernel 28 = .ok (.getfield 19, 3) := by decide +kernel
theorem dX0_putKernel_31 : decode cX0_putKernel 31 = .ok (.iload_n 2, 1) := by decide +kernel
theorem dX0_putKernel_32 : decode cX0_putKernel 32 = .ok (.aload_n 0, 1) := by decide +kernel
theorem dX0_putKernel_33 : decode cX0_putKernel 33 = .ok (.getfield 19, 3) := by decide +kernel
theorem dX0_putKernel_36 : decode cX0_putKernel 36 = .ok (.iload_n 2, 1) := by decide +kernel
theorem dX0_putKernel_37 : decode cX0_putKernel 37 = .ok (.iconst 1, 1) := by decide +kernel
theorem dX0_putKernel_38 : decode cX0_putKernel 38 = .ok (.isub, 1) := by decide +kernel
theorem dX0_putKernel_39 : decode cX0_putKernel 39 = .ok (.iaload, 1) := by decide +kernel
theorem dX0_putKernel_40 : decode cX0_putKernel 40 = .ok (.iastore, 1) := by decide +kernel
theorem dX0_putKernel_41 : decode cX0_putKernel 41 = .ok (.iinc 2 (-1), 3) := by decide +kernel
theorem dX0_putKernel_44 : decode cX0_putKernel 44 = .ok (.goto (-39), 3) := by decide +kernel
theorem dX0_putKernel_47 : decode cX0_putKernel 47 = .ok (.aload_n 0, 1) := by decide +kernel
theorem dX0_putKernel_48 : decode cX0_putKernel 48 = .ok (.getfield 19, 3) := by decide +kernel
theorem dX0_putKernel_51 : decode cX0_putKernel 51 = .ok (.iload_n 2, 1) := by decide +kernel
theorem dX0_putKernel_52 : decode cX0_putKernel 52 = .ok (.iload_n 1, 1) := by decide +kernel
theorem dX0_putKernel_53 : decode cX0_putKernel 53 = .ok (.iastore, 1) := by decide +kernel
theorem dX0_putKernel_54 : decode cX0_putKernel 54 = .ok (.aload_n 0, 1) := by decide +kernel
theorem dX0_putKernel_55 : decode cX0_putKernel 55 = .ok (.dup, 1) := by decide +kernel
theorem dX0_putKernel_56 : decode cX0_putKernel 56 = .ok (.getfield 56, 3) := by decide +kernel
theorem dX0_putKernel_59 : decode cX0_putKernel 59 = .ok (.iconst 1, 1) := by decide +kernel
theorem dX0_putKernel_60 : decode cX0_putKernel 60 = .ok (.iadd, 1) := by decide +kernel
theorem dX0_putKernel_61 : decode cX0_putKernel 61 = .ok (.putfield 56, 3) := by decide +kernel
theorem dX0_putKernel_64 : decode cX0_putKernel 64 = .ok (.return_, 1) := by decide +kernel
abbrev cX0_takeAround : ByteArray := prog_1_method_33_code
def yX0_takeAround : MethodName := ⟨RX0, "takeAround", "(II)V"⟩
theorem dX0_takeAround_0 : decode cX0_takeAround 0 = .ok (.iload_n 2, 1) := by decide +kernel
theorem dX0_takeAround_1 : decode cX0_takeAround 1 = .ok (.iload_n 1, 1) := by decide +kernel
theorem dX0_takeAround_2 : decode cX0_takeAround 2 = .ok (.iconst (-1), 1) := by decide +kernel
theorem dX0_takeAround_3 : decode cX0_takeAround 3 = .ok (.ixor, 1) := by decide +kernel
theorem dX0_takeAround_4 : decode cX0_takeAround 4 = .ok (.iand, 1) := by decide +kernel
theorem dX0_takeAround_5 : decode cX0_takeAround 5 = .ok (.istore_n 3, 1) := by decide +kernel
theorem dX0_takeAround_6 : decode cX0_takeAround 6 = .ok (.iload_n 3, 1) := by decide +kernel
theorem dX0_takeAround_7 : decode cX0_takeAround 7 = .ok (.istore 4, 2) := by decide +kernel
theorem dX0_takeAround_9 : decode cX0_takeAround 9 = .ok (.iconst 0, 1) := by decide +kernel
theorem dX0_takeAround_10 : decode cX0_takeAround 10 = .ok (.istore 5, 2) := by decide +kernel
theorem dX0_takeAround_12 : decode cX0_takeAround 12 = .ok (.iload 5, 2) := by decide +kernel
theorem dX0_takeAround_14 : decode cX0_takeAround 14 = .ok (.sipush 512, 3) := by decide +kernel
theorem dX0_takeAround_17 : decode cX0_takeAround 17 = .ok (.if_icmp .ge 33, 3) := by decide +kernel
theorem dX0_takeAround_20 : decode cX0_takeAround 20 = .ok (.aload_n 0, 1) := by decide +kernel
theorem dX0_takeAround_21 : decode cX0_takeAround 21 = .ok (.iload_n 1, 1) := by decide +kernel
theorem dX0_takeAround_22 : decode cX0_takeAround 22 = .ok (.iload 4, 2) := by decide +kernel
theorem dX0_takeAround_24 : decode cX0_takeAround 24 = .ok (.ior, 1) := by decide +kernel
theorem dX0_takeAround_25 : decode cX0_takeAround 25 = .ok (.invokevirtual 96, 3) := by decide +kernel
theorem dX0_takeAround_28 : decode cX0_takeAround 28 = .ok (.iload 4, 2) := by decide +kernel
theorem dX0_takeAround_30 : decode cX0_takeAround 30 = .ok (.ifCond .ne 6, 3) := by decide +kernel
theorem dX0_takeAround_33 : decode cX0_takeAround 33 = .ok (.goto 17, 3) := by decide +kernel
theorem dX0_takeAround_36 : decode cX0_takeAround 36 = .ok (.iload 4, 2) := by decide +kernel
theorem dX0_takeAround_38 : decode cX0_takeAround 38 = .ok (.iconst 1, 1) := by decide +kernel
theorem dX0_takeAround_39 : decode cX0_takeAround 39 = .ok (.isub, 1) := by decide +kernel
theorem dX0_takeAround_40 : decode cX0_takeAround 40 = .ok (.iload_n 3, 1) := by decide +kernel
theorem dX0_takeAround_41 : decode cX0_takeAround 41 = .ok (.iand, 1) := by decide +kernel
theorem dX0_takeAround_42 : decode cX0_takeAround 42 = .ok (.istore 4, 2) := by decide +kernel
theorem dX0_takeAround_44 : decode cX0_takeAround 44 = .ok (.iinc 5 1, 3) := by decide +kernel
theorem dX0_takeAround_47 : decode cX0_takeAround 47 = .ok (.goto (-35), 3) := by decide +kernel
theorem dX0_takeAround_50 : decode cX0_takeAround 50 = .ok (.return_, 1) := by decide +kernel
abbrev cX0_kernel : ByteArray := prog_1_method_11_code
def yX0_kernel : MethodName := ⟨RX0, "kernel", "(I)I"⟩
theorem dX0_kernel_0 : decode cX0_kernel 0 = .ok (.aload_n 0, 1) := by decide +kernel
theorem dX0_kernel_1 : decode cX0_kernel 1 = .ok (.invokevirtual 53, 3) := by decide +kernel
theorem dX0_kernel_4 : decode cX0_kernel 4 = .ok (.iload_n 1, 1) := by decide +kernel
theorem dX0_kernel_5 : decode cX0_kernel 5 = .ok (.ifCond .lt 20, 3) := by decide +kernel
theorem dX0_kernel_8 : decode cX0_kernel 8 = .ok (.iload_n 1, 1) := by decide +kernel
theorem dX0_kernel_9 : decode cX0_kernel 9 = .ok (.aload_n 0, 1) := by decide +kernel
theorem dX0_kernel_10 : decode cX0_kernel 10 = .ok (.getfield 56, 3) := by decide +kernel
theorem dX0_kernel_13 : decode cX0_kernel 13 = .ok (.if_icmp .ge 12, 3) := by decide +kernel
theorem dX0_kernel_16 : decode cX0_kernel 16 = .ok (.aload_n 0, 1) := by decide +kernel
theorem dX0_kernel_17 : decode cX0_kernel 17 = .ok (.getfield 19, 3) := by decide +kernel
theorem dX0_kernel_20 : decode cX0_kernel 20 = .ok (.iload_n 1, 1) := by decide +kernel
theorem dX0_kernel_21 : decode cX0_kernel 21 = .ok (.iaload, 1) := by decide +kernel
theorem dX0_kernel_22 : decode cX0_kernel 22 = .ok (.goto 4, 3) := by decide +kernel
theorem dX0_kernel_25 : decode cX0_kernel 25 = .ok (.iconst (-1), 1) := by decide +kernel
theorem dX0_kernel_26 : decode cX0_kernel 26 = .ok (.ireturn, 1) := by decide +kernel
abbrev cX0_corrections : ByteArray := prog_1_method_12_code
def yX0_corrections : MethodName := ⟨RX0, "corrections", "()I"⟩
theorem dX0_corrections_0 : decode cX0_corrections 0 = .ok (.aload_n 0, 1) := by decide +kernel
theorem dX0_corrections_1 : decode cX0_corrections 1 = .ok (.invokevirtual 53, 3) := by decide +kernel
theorem dX0_corrections_4 : decode cX0_corrections 4 = .ok (.aload_n 0, 1) := by decide +kernel
theorem dX0_corrections_5 : decode cX0_corrections 5 = .ok (.getfield 59, 3) := by decide +kernel
theorem dX0_corrections_8 : decode cX0_corrections 8 = .ok (.ireturn, 1) := by decide +kernel
abbrev cX0_correction : ByteArray := prog_1_method_13_code
def yX0_correction : MethodName := ⟨RX0, "correction", "(I)I"⟩
theorem dX0_correction_0 : decode cX0_correction 0 = .ok (.aload_n 0, 1) := by decide +kernel
theorem dX0_correction_1 : decode cX0_correction 1 = .ok (.invokevirtual 53, 3) := by decide +kernel
theorem dX0_correction_4 : decode cX0_correction 4 = .ok (.iload_n 1, 1) := by decide +kernel
theorem dX0_correction_5 : decode cX0_correction 5 = .ok (.ifCond .lt 20, 3) := by decide +kernel
theorem dX0_correction_8 : decode cX0_correction 8 = .ok (.iload_n 1, 1) := by decide +kernel
theorem dX0_correction_9 : decode cX0_correction 9 = .ok (.aload_n 0, 1) := by decide +kernel
theorem dX0_correction_10 : decode cX0_correction 10 = .ok (.getfield 59, 3) := by decide +kernel
theorem dX0_correction_13 : decode cX0_correction 13 = .ok (.if_icmp .ge 12, 3) := by decide +kernel
theorem dX0_correction_16 : decode cX0_correction 16 = .ok (.aload_n 0, 1) := by decide +kernel
theorem dX0_correction_17 : decode cX0_correction 17 = .ok (.getfield 22, 3) := by decide +kernel
theorem dX0_correction_20 : decode cX0_correction 20 = .ok (.iload_n 1, 1) := by decide +kernel
theorem dX0_correction_21 : decode cX0_correction 21 = .ok (.iaload, 1) := by decide +kernel
theorem dX0_correction_22 : decode cX0_correction 22 = .ok (.goto 4, 3) := by decide +kernel
theorem dX0_correction_25 : decode cX0_correction 25 = .ok (.iconst (-1), 1) := by decide +kernel
theorem dX0_correction_26 : decode cX0_correction 26 = .ok (.ireturn, 1) := by decide +kernel
abbrev cX0_cheapest : ByteArray := prog_1_method_14_code
def yX0_cheapest : MethodName := ⟨RX0, "cheapest", "()I"⟩
theorem dX0_cheapest_0 : decode cX0_cheapest 0 = .ok (.aload_n 0, 1) := by decide +kernel
theorem dX0_cheapest_1 : decode cX0_cheapest 1 = .ok (.invokevirtual 62, 3) := by decide +kernel
theorem dX0_cheapest_4 : decode cX0_cheapest 4 = .ok (.istore_n 1, 1) := by decide +kernel
theorem dX0_cheapest_5 : decode cX0_cheapest 5 = .ok (.aload_n 0, 1) := by decide +kernel
theorem dX0_cheapest_6 : decode cX0_cheapest 6 = .ok (.iload_n 1, 1) := by decide +kernel
theorem dX0_cheapest_7 : decode cX0_cheapest 7 = .ok (.invokevirtual 66, 3) := by decide +kernel
theorem dX0_cheapest_10 : decode cX0_cheapest 10 = .ok (.ireturn, 1) := by decide +kernel
abbrev cX0_cheapestSet : ByteArray := prog_1_method_15_code
def yX0_cheapestSet : MethodName := ⟨RX0, "cheapestSet", "()I"⟩
theorem dX0_cheapestSet_0 : decode cX0_cheapestSet 0 = .ok (.aload_n 0, 1) := by decide +kernel
theorem dX0_cheapestSet_1 : decode cX0_cheapestSet 1 = .ok (.invokevirtual 53, 3) := by decide +kernel
theorem dX0_cheapestSet_4 : decode cX0_cheapestSet 4 = .ok (.aload_n 0, 1) := by decide +kernel
theorem dX0_cheapestSet_5 : decode cX0_cheapestSet 5 = .ok (.getfield 22, 3) := by decide +kernel
theorem dX0_cheapestSet_8 : decode cX0_cheapestSet 8 = .ok (.iconst 0, 1) := by decide +kernel
theorem dX0_cheapestSet_9 : decode cX0_cheapestSet 9 = .ok (.iaload, 1) := by decide +kernel
theorem dX0_cheapestSet_10 : decode cX0_cheapestSet 10 = .ok (.istore_n 1, 1) := by decide +kernel
theorem dX0_cheapestSet_11 : decode cX0_cheapestSet 11 = .ok (.iconst 1, 1) := by decide +kernel
theorem dX0_cheapestSet_12 : decode cX0_cheapestSet 12 = .ok (.istore_n 2, 1) := by decide +kernel
theorem dX0_cheapestSet_13 : decode cX0_cheapestSet 13 = .ok (.iload_n 2, 1) := by decide +kernel
theorem dX0_cheapestSet_14 : decode cX0_cheapestSet 14 = .ok (.aload_n 0, 1) := by decide +kernel
theorem dX0_cheapestSet_15 : decode cX0_cheapestSet 15 = .ok (.getfield 59, 3) := by decide +kernel
theorem dX0_cheapestSet_18 : decode cX0_cheapestSet 18 = .ok (.if_icmp .ge 34, 3) := by decide +kernel
theorem dX0_cheapestSet_21 : decode cX0_cheapestSet 21 = .ok (.aload_n 0, 1) := by decide +kernel
theorem dX0_cheapestSet_22 : decode cX0_cheapestSet 22 = .ok (.aload_n 0, 1) := by decide +kernel
theorem dX0_cheapestSet_23 : decode cX0_cheapestSet 23 = .ok (.getfield 22, 3) := by decide +kernel
theorem dX0_cheapestSet_26 : decode cX0_cheapestSet 26 = .ok (.iload_n 2, 1) := by decide +kernel
theorem dX0_cheapestSet_27 : decode cX0_cheapestSet 27 = .ok (.iaload, 1) := by decide +kernel
theorem dX0_cheapestSet_28 : decode cX0_cheapestSet 28 = .ok (.invokevirtual 66, 3) := by decide +kernel
theorem dX0_cheapestSet_31 : decode cX0_cheapestSet 31 = .ok (.aload_n 0, 1) := by decide +kernel
theorem dX0_cheapestSet_32 : decode cX0_cheapestSet 32 = .ok (.iload_n 1, 1) := by decide +kernel
theorem dX0_cheapestSet_33 : decode cX0_cheapestSet 33 = .ok (.invokevirtual 66, 3) := by decide +kernel
theorem dX0_cheapestSet_36 : decode cX0_cheapestSet 36 = .ok (.if_icmp .ge 10, 3) := by decide +kernel
theorem dX0_cheapestSet_39 : decode cX0_cheapestSet 39 = .ok (.aload_n 0, 1) := by decide +kernel
theorem dX0_cheapestSet_40 : decode cX0_cheapestSet 40 = .ok (.getfield 22, 3) := by decide +kernel
theorem dX0_cheapestSet_43 : decode cX0_cheapestSet 43 = .ok (.iload_n 2, 1) := by decide +kernel
theorem dX0_cheapestSet_44 : decode cX0_cheapestSet 44 = .ok (.iaload, 1) := by decide +kernel
theorem dX0_cheapestSet_45 : decode cX0_cheapestSet 45 = .ok (.istore_n 1, 1) := by decide +kernel
theorem dX0_cheapestSet_46 : decode cX0_cheapestSet 46 = .ok (.iinc 2 1, 3) := by decide +kernel
theorem dX0_cheapestSet_49 : decode cX0_cheapestSet 49 = .ok (.goto (-36), 3) := by decide +kernel
theorem dX0_cheapestSet_52 : decode cX0_cheapestSet 52 = .ok (.iload_n 1, 1) := by decide +kernel
theorem dX0_cheapestSet_53 : decode cX0_cheapestSet 53 = .ok (.ireturn, 1) := by decide +kernel
abbrev cX0_priceOf : ByteArray := prog_1_method_24_code
def yX0_priceOf : MethodName := ⟨RX0, "priceOf", "(I)I"⟩
theorem dX0_priceOf_0 : decode cX0_priceOf 0 = .ok (.iconst 0, 1) := by decide +kernel
theorem dX0_priceOf_1 : decode cX0_priceOf 1 = .ok (.istore_n 2, 1) := by decide +kernel
theorem dX0_priceOf_2 : decode cX0_priceOf 2 = .ok (.iconst 0, 1) := by decide +kernel
theorem dX0_priceOf_3 : decode cX0_priceOf 3 = .ok (.istore_n 3, 1) := by decide +kernel
theorem dX0_priceOf_4 : decode cX0_priceOf 4 = .ok (.iload_n 3, 1) := by decide +kernel
theorem dX0_priceOf_5 : decode cX0_priceOf 5 = .ok (.aload_n 0, 1) := by decide +kernel
theorem dX0_priceOf_6 : decode cX0_priceOf 6 = .ok (.getfield 28, 3) := by decide +kernel
theorem dX0_priceOf_9 : decode cX0_priceOf 9 = .ok (.if_icmp .ge 31, 3) := by decide +kernel
theorem dX0_priceOf_12 : decode cX0_priceOf 12 = .ok (.iload_n 2, 1) := by decide +kernel
theorem dX0_priceOf_13 : decode cX0_priceOf 13 = .ok (.iload_n 1, 1) := by decide +kernel
theorem dX0_priceOf_14 : decode cX0_priceOf 14 = .ok (.iload_n 3, 1) := by decide +kernel
theorem dX0_priceOf_15 : decode cX0_priceOf 15 = .ok (.ishr, 1) := by decide +kernel
theorem dX0_priceOf_16 : decode cX0_priceOf 16 = .ok (.iconst 1, 1) := by decide +kernel
theorem dX0_priceOf_17 : decode cX0_priceOf 17 = .ok (.iand, 1) := by decide +kernel
theorem dX0_priceOf_18 : decode cX0_priceOf 18 = .ok (.iconst 1, 1) := by decide +kernel
theorem dX0_priceOf_19 : decode cX0_priceOf 19 = .ok (.if_icmp .ne 12, 3) := by decide +kernel
theorem dX0_priceOf_22 : decode cX0_priceOf 22 = .ok (.aload_n 0, 1) := by decide +kernel
theorem dX0_priceOf_23 : decode cX0_priceOf 23 = .ok (.getfield 13, 3) := by decide +kernel
theorem dX0_priceOf_26 : decode cX0_priceOf 26 = .ok (.iload_n 3, 1) := by decide +kernel
theorem dX0_priceOf_27 : decode cX0_priceOf 27 = .ok (.iaload, 1) := by decide +kernel
theorem dX0_priceOf_28 : decode cX0_priceOf 28 = .ok (.goto 4, 3) := by decide +kernel
theorem dX0_priceOf_31 : decode cX0_priceOf 31 = .ok (.iconst 0, 1) := by decide +kernel
theorem dX0_priceOf_32 : decode cX0_priceOf 32 = .ok (.iadd, 1) := by decide +kernel
theorem dX0_priceOf_33 : decode cX0_priceOf 33 = .ok (.istore_n 2, 1) := by decide +kernel
theorem dX0_priceOf_34 : decode cX0_priceOf 34 = .ok (.iinc 3 1, 3) := by decide +kernel
theorem dX0_priceOf_37 : decode cX0_priceOf 37 = .ok (.goto (-33), 3) := by decide +kernel
theorem dX0_priceOf_40 : decode cX0_priceOf 40 = .ok (.iload_n 2, 1) := by decide +kernel
theorem dX0_priceOf_41 : decode cX0_priceOf 41 = .ok (.ireturn, 1) := by decide +kernel
abbrev cX0_smallest : ByteArray := prog_1_method_16_code
def yX0_smallest : MethodName := ⟨RX0, "smallest", "()I"⟩
theorem dX0_smallest_0 : decode cX0_smallest 0 = .ok (.aload_n 0, 1) := by decide +kernel
theorem dX0_smallest_1 : decode cX0_smallest 1 = .ok (.invokevirtual 53, 3) := by decide +kernel
theorem dX0_smallest_4 : decode cX0_smallest 4 = .ok (.iconst 0, 1) := by decide +kernel
theorem dX0_smallest_5 : decode cX0_smallest 5 = .ok (.istore_n 1, 1) := by decide +kernel
theorem dX0_smallest_6 : decode cX0_smallest 6 = .ok (.iconst 0, 1) := by decide +kernel
theorem dX0_smallest_7 : decode cX0_smallest 7 = .ok (.istore_n 2, 1) := by decide +kernel
theorem dX0_smallest_8 : decode cX0_smallest 8 = .ok (.iload_n 2, 1) := by decide +kernel
theorem dX0_smallest_9 : decode cX0_smallest 9 = .ok (.aload_n 0, 1) := by decide +kernel
theorem dX0_smallest_10 : decode cX0_smallest 10 = .ok (.getfield 56, 3) := by decide +kernel
theorem dX0_smallest_13 : decode cX0_smallest 13 = .ok (.if_icmp .ge 34, 3) := by decide +kernel
theorem dX0_smallest_16 : decode cX0_smallest 16 = .ok (.aload_n 0, 1) := by decide +kernel
theorem dX0_smallest_17 : decode cX0_smallest 17 = .ok (.getfield 19, 3) := by decide +kernel
theorem dX0_smallest_20 : decode cX0_smallest 20 = .ok (.iload_n 2, 1) := by decide +kernel
theorem dX0_smallest_21 : decode cX0_smallest 21 = .ok (.iaload, 1) := by decide +kernel
theorem dX0_smallest_22 : decode cX0_smallest 22 = .ok (.invokestatic 69, 3) := by decide +kernel
theorem dX0_smallest_25 : decode cX0_smallest 25 = .ok (.istore_n 3, 1) := by decide +kernel
theorem dX0_smallest_26 : decode cX0_smallest 26 = .ok (.iload_n 1, 1) := by decide +kernel
theorem dX0_smallest_27 : decode cX0_smallest 27 = .ok (.ifCond .eq 8, 3) := by decide +kernel
theorem dX0_smallest_30 : decode cX0_smallest 30 = .ok (.iload_n 3, 1) := by decide +kernel
theorem dX0_smallest_31 : decode cX0_smallest 31 = .ok (.iload_n 1, 1) := by decide +kernel
theorem dX0_smallest_32 : decode cX0_smallest 32 = .ok (.if_icmp .ge 7, 3) := by decide +kernel
theorem dX0_smallest_35 : decode cX0_smallest 35 = .ok (.iload_n 3, 1) := by decide +kernel
theorem dX0_smallest_36 : decode cX0_smallest 36 = .ok (.goto 4, 3) := by decide +kernel
theorem dX0_smallest_39 : decode cX0_smallest 39 = .ok (.iload_n 1, 1) := by decide +kernel
theorem dX0_smallest_40 : decode cX0_smallest 40 = .ok (.istore_n 1, 1) := by decide +kernel
theorem dX0_smallest_41 : decode cX0_smallest 41 = .ok (.iinc 2 1, 3) := by decide +kernel
theorem dX0_smallest_44 : decode cX0_smallest 44 = .ok (.goto (-36), 3) := by decide +kernel
theorem dX0_smallest_47 : decode cX0_smallest 47 = .ok (.iload_n 1, 1) := by decide +kernel
theorem dX0_smallest_48 : decode cX0_smallest 48 = .ok (.ireturn, 1) := by decide +kernel
abbrev cX0_ones : ByteArray := prog_1_method_23_code
def yX0_ones : MethodName := ⟨RX0, "ones", "(I)I"⟩
theorem dX0_ones_0 : decode cX0_ones 0 = .ok (.iconst 0, 1) := by decide +kernel
theorem dX0_ones_1 : decode cX0_ones 1 = .ok (.istore_n 1, 1) := by decide +kernel
theorem dX0_ones_2 : decode cX0_ones 2 = .ok (.iconst 0, 1) := by decide +kernel
theorem dX0_ones_3 : decode cX0_ones 3 = .ok (.istore_n 2, 1) := by decide +kernel
theorem dX0_ones_4 : decode cX0_ones 4 = .ok (.iload_n 2, 1) := by decide +kernel
theorem dX0_ones_5 : decode cX0_ones 5 = .ok (.bipush 9, 2) := by decide +kernel
theorem dX0_ones_7 : decode cX0_ones 7 = .ok (.if_icmp .ge 17, 3) := by decide +kernel
theorem dX0_ones_10 : decode cX0_ones 10 = .ok (.iload_n 1, 1) := by decide +kernel
theorem dX0_ones_11 : decode cX0_ones 11 = .ok (.iload_n 0, 1) := by decide +kernel
theorem dX0_ones_12 : decode cX0_ones 12 = .ok (.iload_n 2, 1) := by decide +kernel
theorem dX0_ones_13 : decode cX0_ones 13 = .ok (.ishr, 1) := by decide +kernel
theorem dX0_ones_14 : decode cX0_ones 14 = .ok (.iconst 1, 1) := by decide +kernel
theorem dX0_ones_15 : decode cX0_ones 15 = .ok (.iand, 1) := by decide +kernel
theorem dX0_ones_16 : decode cX0_ones 16 = .ok (.iadd, 1) := by decide +kernel
theorem dX0_ones_17 : decode cX0_ones 17 = .ok (.istore_n 1, 1) := by decide +kernel
theorem dX0_ones_18 : decode cX0_ones 18 = .ok (.iinc 2 1, 3) := by decide +kernel
theorem dX0_ones_21 : decode cX0_ones 21 = .ok (.goto (-17), 3) := by decide +kernel
theorem dX0_ones_24 : decode cX0_ones 24 = .ok (.iload_n 1, 1) := by decide +kernel
theorem dX0_ones_25 : decode cX0_ones 25 = .ok (.ireturn, 1) := by decide +kernel
abbrev cX0_blame : ByteArray := prog_1_method_17_code
def yX0_blame : MethodName := ⟨RX0, "blame", "(I)I"⟩
theorem dX0_blame_0 : decode cX0_blame 0 = .ok (.aload_n 0, 1) := by decide +kernel
theorem dX0_blame_1 : decode cX0_blame 1 = .ok (.iload_n 1, 1) := by decide +kernel
theorem dX0_blame_2 : decode cX0_blame 2 = .ok (.invokevirtual 43, 3) := by decide +kernel
theorem dX0_blame_5 : decode cX0_blame 5 = .ok (.ifCond .ne 5, 3) := by decide +kernel
theorem dX0_blame_8 : decode cX0_blame 8 = .ok (.iconst (-1), 1) := by decide +kernel
theorem dX0_blame_9 : decode cX0_blame 9 = .ok (.ireturn, 1) := by decide +kernel
theorem dX0_blame_10 : decode cX0_blame 10 = .ok (.aload_n 0, 1) := by decide +kernel
theorem dX0_blame_11 : decode cX0_blame 11 = .ok (.invokevirtual 53, 3) := by decide +kernel
theorem dX0_blame_14 : decode cX0_blame 14 = .ok (.iconst 0, 1) := by decide +kernel
theorem dX0_blame_15 : decode cX0_blame 15 = .ok (.istore_n 2, 1) := by decide +kernel
theorem dX0_blame_16 : decode cX0_blame 16 = .ok (.iconst 0, 1) := by decide +kernel
theorem dX0_blame_17 : decode cX0_blame 17 = .ok (.istore_n 3, 1) := by decide +kernel
theorem dX0_blame_18 : decode cX0_blame 18 = .ok (.iload_n 3, 1) := by decide +kernel
theorem dX0_blame_19 : decode cX0_blame 19 = .ok (.aload_n 0, 1) := by decide +kernel
theorem dX0_blame_20 : decode cX0_blame 20 = .ok (.getfield 56, 3) := by decide +kernel
theorem dX0_blame_23 : decode cX0_blame 23 = .ok (.if_icmp .ge 22, 3) := by decide +kernel
theorem dX0_blame_26 : decode cX0_blame 26 = .ok (.iload_n 2, 1) := by decide +kernel
theorem dX0_blame_27 : decode cX0_blame 27 = .ok (.aload_n 0, 1) := by decide +kernel
theorem dX0_blame_28 : decode cX0_blame 28 = .ok (.getfield 19, 3) := by decide +kernel
theorem dX0_blame_31 : decode cX0_blame 31 = .ok (.iload_n 3, 1) := by decide +kernel
theorem dX0_blame_32 : decode cX0_blame 32 = .ok (.iaload, 1) := by decide +kernel
theorem dX0_blame_33 : decode cX0_blame 33 = .ok (.iload_n 1, 1) := by decide +kernel
theorem dX0_blame_34 : decode cX0_blame 34 = .ok (.ishr, 1) := by decide +kernel
theorem dX0_blame_35 : decode cX0_blame 35 = .ok (.iconst 1, 1) := by decide +kernel
theorem dX0_blame_36 : decode cX0_blame 36 = .ok (.iand, 1) := by decide +kernel
theorem dX0_blame_37 : decode cX0_blame 37 = .ok (.iadd, 1) := by decide +kernel
theorem dX0_blame_38 : decode cX0_blame 38 = .ok (.istore_n 2, 1) := by decide +kernel
theorem dX0_blame_39 : decode cX0_blame 39 = .ok (.iinc 3 1, 3) := by decide +kernel
theorem dX0_blame_42 : decode cX0_blame 42 = .ok (.goto (-24), 3) := by decide +kernel
theorem dX0_blame_45 : decode cX0_blame 45 = .ok (.iload_n 2, 1) := by decide +kernel
theorem dX0_blame_46 : decode cX0_blame 46 = .ok (.ireturn, 1) := by decide +kernel
abbrev cX0_core : ByteArray := prog_1_method_18_code
def yX0_core : MethodName := ⟨RX0, "core", "()I"⟩
theorem dX0_core_0 : decode cX0_core 0 = .ok (.aload_n 0, 1) := by decide +kernel
theorem dX0_core_1 : decode cX0_core 1 = .ok (.invokevirtual 53, 3) := by decide +kernel
theorem dX0_core_4 : decode cX0_core 4 = .ok (.iconst 1, 1) := by decide +kernel
theorem dX0_core_5 : decode cX0_core 5 = .ok (.aload_n 0, 1) := by decide +kernel
theorem dX0_core_6 : decode cX0_core 6 = .ok (.getfield 28, 3) := by decide +kernel
theorem dX0_core_9 : decode cX0_core 9 = .ok (.ishl, 1) := by decide +kernel
theorem dX0_core_10 : decode cX0_core 10 = .ok (.iconst 1, 1) := by decide +kernel
theorem dX0_core_11 : decode cX0_core 11 = .ok (.isub, 1) := by decide +kernel
theorem dX0_core_12 : decode cX0_core 12 = .ok (.istore_n 1, 1) := by decide +kernel
theorem dX0_core_13 : decode cX0_core 13 = .ok (.iconst 0, 1) := by decide +kernel
theorem dX0_core_14 : decode cX0_core 14 = .ok (.istore_n 2, 1) := by decide +kernel
theorem dX0_core_15 : decode cX0_core 15 = .ok (.iload_n 2, 1) := by decide +kernel
theorem dX0_core_16 : decode cX0_core 16 = .ok (.aload_n 0, 1) := by decide +kernel
theorem dX0_core_17 : decode cX0_core 17 = .ok (.getfield 56, 3) := by decide +kernel
theorem dX0_core_20 : decode cX0_core 20 = .ok (.if_icmp .ge 18, 3) := by decide +kernel
theorem dX0_core_23 : decode cX0_core 23 = .ok (.iload_n 1, 1) := by decide +kernel
theorem dX0_core_24 : decode cX0_core 24 = .ok (.aload_n 0, 1) := by decide +kernel
theorem dX0_core_25 : decode cX0_core 25 = .ok (.getfield 19, 3) := by decide +kernel
theorem dX0_core_28 : decode cX0_core 28 = .ok (.iload_n 2, 1) := by decide +kernel
theorem dX0_core_29 : decode cX0_core 29 = .ok (.iaload, 1) := by decide +kernel
theorem dX0_core_30 : decode cX0_core 30 = .ok (.iand, 1) := by decide +kernel
theorem dX0_core_31 : decode cX0_core 31 = .ok (.istore_n 1, 1) := by decide +kernel
theorem dX0_core_32 : decode cX0_core 32 = .ok (.iinc 2 1, 3) := by decide +kernel
theorem dX0_core_35 : decode cX0_core 35 = .ok (.goto (-20), 3) := by decide +kernel
theorem dX0_core_38 : decode cX0_core 38 = .ok (.iload_n 1, 1) := by decide +kernel
theorem dX0_core_39 : decode cX0_core 39 = .ok (.ireturn, 1) := by decide +kernel
abbrev cX0_sort : ByteArray := prog_1_method_19_code
def yX0_sort : MethodName := ⟨RX0, "sort", "(I)I"⟩
theorem dX0_sort_0 : decode cX0_sort 0 = .ok (.aload_n 0, 1) := by decide +kernel
theorem dX0_sort_1 : decode cX0_sort 1 = .ok (.iload_n 1, 1) := by decide +kernel
theorem dX0_sort_2 : decode cX0_sort 2 = .ok (.invokevirtual 47, 3) := by decide +kernel
theorem dX0_sort_5 : decode cX0_sort 5 = .ok (.ifCond .ne 5, 3) := by decide +kernel
theorem dX0_sort_8 : decode cX0_sort 8 = .ok (.iconst (-1), 1) := by decide +kernel
theorem dX0_sort_9 : decode cX0_sort 9 = .ok (.ireturn, 1) := by decide +kernel
theorem dX0_sort_10 : decode cX0_sort 10 = .ok (.aload_n 0, 1) := by decide +kernel
theorem dX0_sort_11 : decode cX0_sort 11 = .ok (.invokevirtual 53, 3) := by decide +kernel
theorem dX0_sort_14 : decode cX0_sort 14 = .ok (.iconst 0, 1) := by decide +kernel
theorem dX0_sort_15 : decode cX0_sort 15 = .ok (.istore_n 2, 1) := by decide +kernel
theorem dX0_sort_16 : decode cX0_sort 16 = .ok (.iload_n 2, 1) := by decide +kernel
theorem dX0_sort_17 : decode cX0_sort 17 = .ok (.aload_n 0, 1) := by decide +kernel
theorem dX0_sort_18 : decode cX0_sort 18 = .ok (.getfield 56, 3) := by decide +kernel
theorem dX0_sort_21 : decode cX0_sort 21 = .ok (.if_icmp .ge 21, 3) := by decide +kernel
theorem dX0_sort_24 : decode cX0_sort 24 = .ok (.aload_n 0, 1) := by decide +kernel
theorem dX0_sort_25 : decode cX0_sort 25 = .ok (.getfield 19, 3) := by decide +kernel
theorem dX0_sort_28 : decode cX0_sort 28 = .ok (.iload_n 2, 1) := by decide +kernel
theorem dX0_sort_29 : decode cX0_sort 29 = .ok (.iaload, 1) := by decide +kernel
theorem dX0_sort_30 : decode cX0_sort 30 = .ok (.iload_n 1, 1) := by decide +kernel
theorem dX0_sort_31 : decode cX0_sort 31 = .ok (.if_icmp .ne 5, 3) := by decide +kernel
theorem dX0_sort_34 : decode cX0_sort 34 = .ok (.iconst 1, 1) := by decide +kernel
theorem dX0_sort_35 : decode cX0_sort 35 = .ok (.ireturn, 1) := by decide +kernel
theorem dX0_sort_36 : decode cX0_sort 36 = .ok (.iinc 2 1, 3) := by decide +kernel
theorem dX0_sort_39 : decode cX0_sort 39 = .ok (.goto (-23), 3) := by decide +kernel
theorem dX0_sort_42 : decode cX0_sort 42 = .ok (.iconst 0, 1) := by decide +kernel
theorem dX0_sort_43 : decode cX0_sort 43 = .ok (.istore_n 2, 1) := by decide +kernel
theorem dX0_sort_44 : decode cX0_sort 44 = .ok (.iload_n 2, 1) := by decide +kernel
theorem dX0_sort_45 : decode cX0_sort 45 = .ok (.aload_n 0, 1) := by decide +kernel
theorem dX0_sort_46 : decode cX0_sort 46 = .ok (.getfield 59, 3) := by decide +kernel
theorem dX0_sort_49 : decode cX0_sort 49 = .ok (.if_icmp .ge 21, 3) := by decide +kernel
theorem dX0_sort_52 : decode cX0_sort 52 = .ok (.aload_n 0, 1) := by decide +kernel
theorem dX0_sort_53 : decode cX0_sort 53 = .ok (.getfield 22, 3) := by decide +kernel
theorem dX0_sort_56 : decode cX0_sort 56 = .ok (.iload_n 2, 1) := by decide +kernel
theorem dX0_sort_57 : decode cX0_sort 57 = .ok (.iaload, 1) := by decide +kernel
theorem dX0_sort_58 : decode cX0_sort 58 = .ok (.iload_n 1, 1) := by decide +kernel
theorem dX0_sort_59 : decode cX0_sort 59 = .ok (.if_icmp .ne 5, 3) := by decide +kernel
theorem dX0_sort_62 : decode cX0_sort 62 = .ok (.iconst 2, 1) := by decide +kernel
theorem dX0_sort_63 : decode cX0_sort 63 = .ok (.ireturn, 1) := by decide +kernel
theorem dX0_sort_64 : decode cX0_sort 64 = .ok (.iinc 2 1, 3) := by decide +kernel
theorem dX0_sort_67 : decode cX0_sort 67 = .ok (.goto (-23), 3) := by decide +kernel
theorem dX0_sort_70 : decode cX0_sort 70 = .ok (.iconst 0, 1) := by decide +kernel
theorem dX0_sort_71 : decode cX0_sort 71 = .ok (.ireturn, 1) := by decide +kernel
abbrev cX0_width : ByteArray := prog_1_method_20_code
def yX0_width : MethodName := ⟨RX0, "width", "(I)I"⟩
theorem dX0_width_0 : decode cX0_width 0 = .ok (.aload_n 0, 1) := by decide +kernel
theorem dX0_width_1 : decode cX0_width 1 = .ok (.iload_n 1, 1) := by decide +kernel
theorem dX0_width_2 : decode cX0_width 2 = .ok (.invokevirtual 43, 3) := by decide +kernel
theorem dX0_width_5 : decode cX0_width 5 = .ok (.ifCond .ne 5, 3) := by decide +kernel
theorem dX0_width_8 : decode cX0_width 8 = .ok (.iconst (-1), 1) := by decide +kernel
theorem dX0_width_9 : decode cX0_width 9 = .ok (.ireturn, 1) := by decide +kernel
theorem dX0_width_10 : decode cX0_width 10 = .ok (.iconst 0, 1) := by decide +kernel
theorem dX0_width_11 : decode cX0_width 11 = .ok (.istore_n 2, 1) := by decide +kernel
theorem dX0_width_12 : decode cX0_width 12 = .ok (.iconst 0, 1) := by decide +kernel
theorem dX0_width_13 : decode cX0_width 13 = .ok (.istore_n 3, 1) := by decide +kernel
theorem dX0_width_14 : decode cX0_width 14 = .ok (.iload_n 3, 1) := by decide +kernel
theorem dX0_width_15 : decode cX0_width 15 = .ok (.bipush 32, 2) := by decide +kernel
theorem dX0_width_17 : decode cX0_width 17 = .ok (.if_icmp .ge 22, 3) := by decide +kernel
theorem dX0_width_20 : decode cX0_width 20 = .ok (.iload_n 2, 1) := by decide +kernel
theorem dX0_width_21 : decode cX0_width 21 = .ok (.aload_n 0, 1) := by decide +kernel
theorem dX0_width_22 : decode cX0_width 22 = .ok (.getfield 7, 3) := by decide +kernel
theorem dX0_width_25 : decode cX0_width 25 = .ok (.iload_n 1, 1) := by decide +kernel
theorem dX0_width_26 : decode cX0_width 26 = .ok (.iaload, 1) := by decide +kernel
theorem dX0_width_27 : decode cX0_width 27 = .ok (.iload_n 3, 1) := by decide +kernel
theorem dX0_width_28 : decode cX0_width 28 = .ok (.iushr, 1) := by decide +kernel
theorem dX0_width_29 : decode cX0_width 29 = .ok (.iconst 1, 1) := by decide +kernel
theorem dX0_width_30 : decode cX0_width 30 = .ok (.iand, 1) := by decide +kernel
theorem dX0_width_31 : decode cX0_width 31 = .ok (.iadd, 1) := by decide +kernel
theorem dX0_width_32 : decode cX0_width 32 = .ok (.istore_n 2, 1) := by decide +kernel
theorem dX0_width_33 : decode cX0_width 33 = .ok (.iinc 3 1, 3) := by decide +kernel
theorem dX0_width_36 : decode cX0_width 36 = .ok (.goto (-22), 3) := by decide +kernel
theorem dX0_width_39 : decode cX0_width 39 = .ok (.iload_n 2, 1) := by decide +kernel
theorem dX0_width_40 : decode cX0_width 40 = .ok (.ireturn, 1) := by decide +kernel
theorem q26 : (Jvm.Cond.initialized "ConflictSets") ∈ lw_all := lw_g (lw_at lw_m1 1 rfl) rfl
theorem q29 : (Jvm.Cond.instantiable "ConflictSets" (11 : Nat)) ∈ lw_all := lw_g (lw_at lw_m1 4 rfl) rfl
theorem q31 : (Jvm.Cond.instanceMethod ({ cls := "ConflictSets", name := "<init>", desc := "()V" } : Jvm.MethodName)) ∈ lw_all := lw_g (lw_at lw_m1 6 rfl) rfl
theorem q32 : (Jvm.Cond.code ({ cls := "ConflictSets", name := "<init>", desc := "()V" } : Jvm.MethodName) prog_1_method_1_code (1 : Nat) (Option.none : Option Jvm.ClassFile.FieldType)) ∈ lw_all := lw_g (lw_at lw_m1 7 rfl) rfl
theorem q33 : (Jvm.Cond.methodLink "ConflictSets" (1 : Nat) ({ cls := "java/lang/Object", name := "<init>", desc := "()V" } : Jvm.MethodName)) ∈ lw_all := lw_g (lw_at lw_m1 8 rfl) rfl
theorem q36 : (Jvm.Cond.fieldLink "ConflictSets" (7 : Nat) "ConflictSets" "words" "[I") ∈ lw_all := lw_g (lw_at lw_m1 11 rfl) rfl
theorem q37 : (Jvm.Cond.fieldLink "ConflictSets" (13 : Nat) "ConflictSets" "prices" "[I") ∈ lw_all := lw_g (lw_at lw_m1 12 rfl) rfl
theorem q38 : (Jvm.Cond.fieldLink "ConflictSets" (16 : Nat) "ConflictSets" "draft" "[I") ∈ lw_all := lw_g (lw_at lw_m1 13 rfl) rfl
theorem q39 : (Jvm.Cond.fieldLink "ConflictSets" (19 : Nat) "ConflictSets" "kernelList" "[I") ∈ lw_all := lw_g (lw_at lw_m1 14 rfl) rfl
theorem q40 : (Jvm.Cond.fieldLink "ConflictSets" (22 : Nat) "ConflictSets" "fixList" "[I") ∈ lw_all := lw_g (lw_at lw_m1 15 rfl) rfl
theorem q41 : (Jvm.Cond.fieldLink "ConflictSets" (25 : Nat) "ConflictSets" "waiting" "[I") ∈ lw_all := lw_g (lw_at lw_m1 16 rfl) rfl
theorem q42 : (Jvm.Cond.fieldLink "ConflictSets" (28 : Nat) "ConflictSets" "count" "I") ∈ lw_all := lw_g (lw_at lw_m1 17 rfl) rfl
theorem q43 : (Jvm.Cond.fieldLink "ConflictSets" (32 : Nat) "ConflictSets" "draftSize" "I") ∈ lw_all := lw_g (lw_at lw_m1 18 rfl) rfl
theorem q44 : (Jvm.Cond.fieldLink "ConflictSets" (56 : Nat) "ConflictSets" "kernelCount" "I") ∈ lw_all := lw_g (lw_at lw_m1 19 rfl) rfl
theorem q45 : (Jvm.Cond.fieldLink "ConflictSets" (59 : Nat) "ConflictSets" "fixCount" "I") ∈ lw_all := lw_g (lw_at lw_m1 20 rfl) rfl
theorem q46 : (Jvm.Cond.fieldLink "ConflictSets" (39 : Nat) "ConflictSets" "solved" "Z") ∈ lw_all := lw_g (lw_at lw_m1 21 rfl) rfl
theorem q47 : (Jvm.Cond.laysFinal "ConflictSets" "ConflictSets" "words" "[I") ∈ lw_all := lw_g (lw_at lw_m1 22 rfl) rfl
theorem q48 : (Jvm.Cond.soleField "ConflictSets" "words") ∈ lw_all := lw_g (lw_at lw_m1 23 rfl) rfl
theorem q49 : (Jvm.Cond.laysFinal "ConflictSets" "ConflictSets" "prices" "[I") ∈ lw_all := lw_g (lw_at lw_m1 24 rfl) rfl
theorem q50 : (Jvm.Cond.soleField "ConflictSets" "prices") ∈ lw_all := lw_g (lw_at lw_m1 25 rfl) rfl
theorem q51 : (Jvm.Cond.laysFinal "ConflictSets" "ConflictSets" "draft" "[I") ∈ lw_all := lw_g (lw_at lw_m1 26 rfl) rfl
theorem q52 : (Jvm.Cond.soleField "ConflictSets" "draft") ∈ lw_all := lw_g (lw_at lw_m1 27 rfl) rfl
theorem q53 : (Jvm.Cond.laysFinal "ConflictSets" "ConflictSets" "kernelList" "[I") ∈ lw_all := lw_g (lw_at lw_m1 28 rfl) rfl
theorem q54 : (Jvm.Cond.soleField "ConflictSets" "kernelList") ∈ lw_all := lw_g (lw_at lw_m1 29 rfl) rfl
theorem q55 : (Jvm.Cond.laysFinal "ConflictSets" "ConflictSets" "fixList" "[I") ∈ lw_all := lw_g (lw_at lw_m1 30 rfl) rfl
theorem q56 : (Jvm.Cond.soleField "ConflictSets" "fixList") ∈ lw_all := lw_g (lw_at lw_m1 31 rfl) rfl
theorem q57 : (Jvm.Cond.laysFinal "ConflictSets" "ConflictSets" "waiting" "[I") ∈ lw_all := lw_g (lw_at lw_m1 32 rfl) rfl
theorem q58 : (Jvm.Cond.soleField "ConflictSets" "waiting") ∈ lw_all := lw_g (lw_at lw_m1 33 rfl) rfl
theorem q59 : (Jvm.Cond.lays "ConflictSets" "ConflictSets" "count" "I") ∈ lw_all := lw_g (lw_at lw_m1 34 rfl) rfl
theorem q60 : (Jvm.Cond.soleField "ConflictSets" "count") ∈ lw_all := lw_g (lw_at lw_m1 35 rfl) rfl
theorem q61 : (Jvm.Cond.lays "ConflictSets" "ConflictSets" "draftSize" "I") ∈ lw_all := lw_g (lw_at lw_m1 36 rfl) rfl
theorem q62 : (Jvm.Cond.soleField "ConflictSets" "draftSize") ∈ lw_all := lw_g (lw_at lw_m1 37 rfl) rfl
theorem q63 : (Jvm.Cond.lays "ConflictSets" "ConflictSets" "kernelCount" "I") ∈ lw_all := lw_g (lw_at lw_m1 38 rfl) rfl
theorem q64 : (Jvm.Cond.soleField "ConflictSets" "kernelCount") ∈ lw_all := lw_g (lw_at lw_m1 39 rfl) rfl
theorem q65 : (Jvm.Cond.lays "ConflictSets" "ConflictSets" "fixCount" "I") ∈ lw_all := lw_g (lw_at lw_m1 40 rfl) rfl
theorem q66 : (Jvm.Cond.soleField "ConflictSets" "fixCount") ∈ lw_all := lw_g (lw_at lw_m1 41 rfl) rfl
theorem q67 : (Jvm.Cond.lays "ConflictSets" "ConflictSets" "solved" "Z") ∈ lw_all := lw_g (lw_at lw_m1 42 rfl) rfl
theorem q68 : (Jvm.Cond.soleField "ConflictSets" "solved") ∈ lw_all := lw_g (lw_at lw_m1 43 rfl) rfl
theorem q69 : (Jvm.Cond.superclass "ConflictSets" "java/lang/Object") ∈ lw_all := lw_g (lw_at lw_m1 44 rfl) rfl
theorem q72 : (Jvm.Cond.instanceMethod ({ cls := "ConflictSets", name := "literal", desc := "(I)I" } : Jvm.MethodName)) ∈ lw_all := lw_g (lw_at lw_m1 47 rfl) rfl
theorem q73 : (Jvm.Cond.selects "ConflictSets" ({ cls := "ConflictSets", name := "literal", desc := "(I)I" } : Jvm.MethodName) ({ cls := "ConflictSets", name := "literal", desc := "(I)I" } : Jvm.MethodName)) ∈ lw_all := lw_g (lw_at lw_m1 48 rfl) rfl
theorem q74 : (Jvm.Cond.code ({ cls := "ConflictSets", name := "literal", desc := "(I)I" } : Jvm.MethodName) prog_1_method_2_code (3 : Nat) (Option.some Jvm.ClassFile.FieldType.int)) ∈ lw_all := lw_g (lw_at lw_m1 49 rfl) rfl
theorem q76 : (Jvm.Cond.instanceMethod ({ cls := "ConflictSets", name := "add", desc := "()I" } : Jvm.MethodName)) ∈ lw_all := lw_g (lw_at lw_m1 51 rfl) rfl
theorem q77 : (Jvm.Cond.selects "ConflictSets" ({ cls := "ConflictSets", name := "add", desc := "()I" } : Jvm.MethodName) ({ cls := "ConflictSets", name := "add", desc := "()I" } : Jvm.MethodName)) ∈ lw_all := lw_g (lw_at lw_m1 52 rfl) rfl
theorem q78 : (Jvm.Cond.code ({ cls := "ConflictSets", name := "add", desc := "()I" } : Jvm.MethodName) prog_1_method_3_code (3 : Nat) (Option.some Jvm.ClassFile.FieldType.int)) ∈ lw_all := lw_g (lw_at lw_m1 53 rfl) rfl
theorem q79 : (Jvm.Cond.methodLink "ConflictSets" (35 : Nat) ({ cls := "ConflictSets", name := "wordOf", desc := "(I)I" } : Jvm.MethodName)) ∈ lw_all := lw_g (lw_at lw_m1 54 rfl) rfl
theorem q80 : (Jvm.Cond.static ({ cls := "ConflictSets", name := "wordOf", desc := "(I)I" } : Jvm.MethodName)) ∈ lw_all := lw_g (lw_at lw_m1 55 rfl) rfl
theorem q81 : (Jvm.Cond.code ({ cls := "ConflictSets", name := "wordOf", desc := "(I)I" } : Jvm.MethodName) prog_1_method_25_code (4 : Nat) (Option.some Jvm.ClassFile.FieldType.int)) ∈ lw_all := lw_g (lw_at lw_m1 56 rfl) rfl
theorem q83 : (Jvm.Cond.instanceMethod ({ cls := "ConflictSets", name := "clear", desc := "()I" } : Jvm.MethodName)) ∈ lw_all := lw_g (lw_at lw_m1 58 rfl) rfl
theorem q84 : (Jvm.Cond.selects "ConflictSets" ({ cls := "ConflictSets", name := "clear", desc := "()I" } : Jvm.MethodName) ({ cls := "ConflictSets", name := "clear", desc := "()I" } : Jvm.MethodName)) ∈ lw_all := lw_g (lw_at lw_m1 59 rfl) rfl
theorem q85 : (Jvm.Cond.code ({ cls := "ConflictSets", name := "clear", desc := "()I" } : Jvm.MethodName) prog_1_method_4_code (2 : Nat) (Option.some Jvm.ClassFile.FieldType.int)) ∈ lw_all := lw_g (lw_at lw_m1 60 rfl) rfl
theorem q87 : (Jvm.Cond.instanceMethod ({ cls := "ConflictSets", name := "remove", desc := "(I)I" } : Jvm.MethodName)) ∈ lw_all := lw_g (lw_at lw_m1 62 rfl) rfl
theorem q88 : (Jvm.Cond.selects "ConflictSets" ({ cls := "ConflictSets", name := "remove", desc := "(I)I" } : Jvm.MethodName) ({ cls := "ConflictSets", name := "remove", desc := "(I)I" } : Jvm.MethodName)) ∈ lw_all := lw_g (lw_at lw_m1 63 rfl) rfl
theorem q89 : (Jvm.Cond.code ({ cls := "ConflictSets", name := "remove", desc := "(I)I" } : Jvm.MethodName) prog_1_method_5_code (3 : Nat) (Option.some Jvm.ClassFile.FieldType.int)) ∈ lw_all := lw_g (lw_at lw_m1 64 rfl) rfl
theorem q90 : (Jvm.Cond.methodLink "ConflictSets" (43 : Nat) ({ cls := "ConflictSets", name := "isGood", desc := "(I)Z" } : Jvm.MethodName)) ∈ lw_all := lw_g (lw_at lw_m1 65 rfl) rfl
theorem q91 : (Jvm.Cond.privateMethod ({ cls := "ConflictSets", name := "isGood", desc := "(I)Z" } : Jvm.MethodName)) ∈ lw_tbl := lw_at lw_m1 66 rfl
theorem q92 : (Jvm.Cond.instanceMethod ({ cls := "ConflictSets", name := "isGood", desc := "(I)Z" } : Jvm.MethodName)) ∈ lw_all := lw_g (lw_at lw_m1 67 rfl) rfl
theorem q93 : (Jvm.Cond.code ({ cls := "ConflictSets", name := "isGood", desc := "(I)Z" } : Jvm.MethodName) prog_1_method_21_code (2 : Nat) (Option.some Jvm.ClassFile.FieldType.boolean)) ∈ lw_all := lw_g (lw_at lw_m1 68 rfl) rfl
theorem q95 : (Jvm.Cond.instanceMethod ({ cls := "ConflictSets", name := "price", desc := "(II)I" } : Jvm.MethodName)) ∈ lw_all := lw_g (lw_at lw_m1 70 rfl) rfl
theorem q96 : (Jvm.Cond.selects "ConflictSets" ({ cls := "ConflictSets", name := "price", desc := "(II)I" } : Jvm.MethodName) ({ cls := "ConflictSets", name := "price", desc := "(II)I" } : Jvm.MethodName)) ∈ lw_all := lw_g (lw_at lw_m1 71 rfl) rfl
theorem q97 : (Jvm.Cond.code ({ cls := "ConflictSets", name := "price", desc := "(II)I" } : Jvm.MethodName) prog_1_method_6_code (4 : Nat) (Option.some Jvm.ClassFile.FieldType.int)) ∈ lw_all := lw_g (lw_at lw_m1 72 rfl) rfl
theorem q99 : (Jvm.Cond.instanceMethod ({ cls := "ConflictSets", name := "conditions", desc := "()I" } : Jvm.MethodName)) ∈ lw_all := lw_g (lw_at lw_m1 74 rfl) rfl
theorem q100 : (Jvm.Cond.selects "ConflictSets" ({ cls := "ConflictSets", name := "conditions", desc := "()I" } : Jvm.MethodName) ({ cls := "ConflictSets", name := "conditions", desc := "()I" } : Jvm.MethodName)) ∈ lw_all := lw_g (lw_at lw_m1 75 rfl) rfl
theorem q101 : (Jvm.Cond.code ({ cls := "ConflictSets", name := "conditions", desc := "()I" } : Jvm.MethodName) prog_1_method_7_code (1 : Nat) (Option.some Jvm.ClassFile.FieldType.int)) ∈ lw_all := lw_g (lw_at lw_m1 76 rfl) rfl
theorem q103 : (Jvm.Cond.instanceMethod ({ cls := "ConflictSets", name := "possible", desc := "(I)I" } : Jvm.MethodName)) ∈ lw_all := lw_g (lw_at lw_m1 78 rfl) rfl
theorem q104 : (Jvm.Cond.selects "ConflictSets" ({ cls := "ConflictSets", name := "possible", desc := "(I)I" } : Jvm.MethodName) ({ cls := "ConflictSets", name := "possible", desc := "(I)I" } : Jvm.MethodName)) ∈ lw_all := lw_g (lw_at lw_m1 79 rfl) rfl
theorem q105 : (Jvm.Cond.code ({ cls := "ConflictSets", name := "possible", desc := "(I)I" } : Jvm.MethodName) prog_1_method_8_code (2 : Nat) (Option.some Jvm.ClassFile.FieldType.int)) ∈ lw_all := lw_g (lw_at lw_m1 80 rfl) rfl
theorem q106 : (Jvm.Cond.methodLink "ConflictSets" (47 : Nat) ({ cls := "ConflictSets", name := "isSet", desc := "(I)Z" } : Jvm.MethodName)) ∈ lw_all := lw_g (lw_at lw_m1 81 rfl) rfl
theorem q107 : (Jvm.Cond.privateMethod ({ cls := "ConflictSets", name := "isSet", desc := "(I)Z" } : Jvm.MethodName)) ∈ lw_tbl := lw_at lw_m1 82 rfl
theorem q108 : (Jvm.Cond.instanceMethod ({ cls := "ConflictSets", name := "isSet", desc := "(I)Z" } : Jvm.MethodName)) ∈ lw_all := lw_g (lw_at lw_m1 83 rfl) rfl
theorem q109 : (Jvm.Cond.code ({ cls := "ConflictSets", name := "isSet", desc := "(I)Z" } : Jvm.MethodName) prog_1_method_22_code (2 : Nat) (Option.some Jvm.ClassFile.FieldType.boolean)) ∈ lw_all := lw_g (lw_at lw_m1 84 rfl) rfl
theorem q110 : (Jvm.Cond.methodLink "ConflictSets" (50 : Nat) ({ cls := "ConflictSets", name := "common", desc := "(I)I" } : Jvm.MethodName)) ∈ lw_all := lw_g (lw_at lw_m1 85 rfl) rfl
theorem q111 : (Jvm.Cond.privateMethod ({ cls := "ConflictSets", name := "common", desc := "(I)I" } : Jvm.MethodName)) ∈ lw_tbl := lw_at lw_m1 86 rfl
theorem q112 : (Jvm.Cond.instanceMethod ({ cls := "ConflictSets", name := "common", desc := "(I)I" } : Jvm.MethodName)) ∈ lw_all := lw_g (lw_at lw_m1 87 rfl) rfl
theorem q113 : (Jvm.Cond.code ({ cls := "ConflictSets", name := "common", desc := "(I)I" } : Jvm.MethodName) prog_1_method_26_code (4 : Nat) (Option.some Jvm.ClassFile.FieldType.int)) ∈ lw_all := lw_g (lw_at lw_m1 88 rfl) rfl
theorem q115 : (Jvm.Cond.instanceMethod ({ cls := "ConflictSets", name := "model", desc := "(I)I" } : Jvm.MethodName)) ∈ lw_all := lw_g (lw_at lw_m1 90 rfl) rfl
theorem q116 : (Jvm.Cond.selects "ConflictSets" ({ cls := "ConflictSets", name := "model", desc := "(I)I" } : Jvm.MethodName) ({ cls := "ConflictSets", name := "model", desc := "(I)I" } : Jvm.MethodName)) ∈ lw_all := lw_g (lw_at lw_m1 91 rfl) rfl
theorem q117 : (Jvm.Cond.code ({ cls := "ConflictSets", name := "model", desc := "(I)I" } : Jvm.MethodName) prog_1_method_9_code (4 : Nat) (Option.some Jvm.ClassFile.FieldType.int)) ∈ lw_all := lw_g (lw_at lw_m1 92 rfl) rfl
theorem q119 : (Jvm.Cond.instanceMethod ({ cls := "ConflictSets", name := "kernels", desc := "()I" } : Jvm.MethodName)) ∈ lw_all := lw_g (lw_at lw_m1 94 rfl) rfl
theorem q120 : (Jvm.Cond.selects "ConflictSets" ({ cls := "ConflictSets", name := "kernels", desc := "()I" } : Jvm.MethodName) ({ cls := "ConflictSets", name := "kernels", desc := "()I" } : Jvm.MethodName)) ∈ lw_all := lw_g (lw_at lw_m1 95 rfl) rfl
theorem q121 : (Jvm.Cond.code ({ cls := "ConflictSets", name := "kernels", desc := "()I" } : Jvm.MethodName) prog_1_method_10_code (1 : Nat) (Option.some Jvm.ClassFile.FieldType.int)) ∈ lw_all := lw_g (lw_at lw_m1 96 rfl) rfl
theorem q122 : (Jvm.Cond.methodLink "ConflictSets" (53 : Nat) ({ cls := "ConflictSets", name := "solve", desc := "()V" } : Jvm.MethodName)) ∈ lw_all := lw_g (lw_at lw_m1 97 rfl) rfl
theorem q123 : (Jvm.Cond.privateMethod ({ cls := "ConflictSets", name := "solve", desc := "()V" } : Jvm.MethodName)) ∈ lw_tbl := lw_at lw_m1 98 rfl
theorem q124 : (Jvm.Cond.instanceMethod ({ cls := "ConflictSets", name := "solve", desc := "()V" } : Jvm.MethodName)) ∈ lw_all := lw_g (lw_at lw_m1 99 rfl) rfl
theorem q125 : (Jvm.Cond.code ({ cls := "ConflictSets", name := "solve", desc := "()V" } : Jvm.MethodName) prog_1_method_29_code (4 : Nat) (Option.none : Option Jvm.ClassFile.FieldType)) ∈ lw_all := lw_g (lw_at lw_m1 100 rfl) rfl
theorem q126 : (Jvm.Cond.methodLink "ConflictSets" (72 : Nat) ({ cls := "ConflictSets", name := "waits", desc := "(I)Z" } : Jvm.MethodName)) ∈ lw_all := lw_g (lw_at lw_m1 101 rfl) rfl
theorem q127 : (Jvm.Cond.privateMethod ({ cls := "ConflictSets", name := "waits", desc := "(I)Z" } : Jvm.MethodName)) ∈ lw_tbl := lw_at lw_m1 102 rfl
theorem q128 : (Jvm.Cond.instanceMethod ({ cls := "ConflictSets", name := "waits", desc := "(I)Z" } : Jvm.MethodName)) ∈ lw_all := lw_g (lw_at lw_m1 103 rfl) rfl
theorem q129 : (Jvm.Cond.code ({ cls := "ConflictSets", name := "waits", desc := "(I)Z" } : Jvm.MethodName) prog_1_method_27_code (2 : Nat) (Option.some Jvm.ClassFile.FieldType.boolean)) ∈ lw_all := lw_g (lw_at lw_m1 104 rfl) rfl
theorem q130 : (Jvm.Cond.methodLink "ConflictSets" (75 : Nat) ({ cls := "ConflictSets", name := "grow", desc := "(II)I" } : Jvm.MethodName)) ∈ lw_all := lw_g (lw_at lw_m1 105 rfl) rfl
theorem q131 : (Jvm.Cond.privateMethod ({ cls := "ConflictSets", name := "grow", desc := "(II)I" } : Jvm.MethodName)) ∈ lw_tbl := lw_at lw_m1 106 rfl
theorem q132 : (Jvm.Cond.instanceMethod ({ cls := "ConflictSets", name := "grow", desc := "(II)I" } : Jvm.MethodName)) ∈ lw_all := lw_g (lw_at lw_m1 107 rfl) rfl
theorem q133 : (Jvm.Cond.code ({ cls := "ConflictSets", name := "grow", desc := "(II)I" } : Jvm.MethodName) prog_1_method_30_code (6 : Nat) (Option.some Jvm.ClassFile.FieldType.int)) ∈ lw_all := lw_g (lw_at lw_m1 108 rfl) rfl
theorem q134 : (Jvm.Cond.methodLink "ConflictSets" (79 : Nat) ({ cls := "ConflictSets", name := "putFix", desc := "(I)V" } : Jvm.MethodName)) ∈ lw_all := lw_g (lw_at lw_m1 109 rfl) rfl
theorem q135 : (Jvm.Cond.privateMethod ({ cls := "ConflictSets", name := "putFix", desc := "(I)V" } : Jvm.MethodName)) ∈ lw_tbl := lw_at lw_m1 110 rfl
theorem q136 : (Jvm.Cond.instanceMethod ({ cls := "ConflictSets", name := "putFix", desc := "(I)V" } : Jvm.MethodName)) ∈ lw_all := lw_g (lw_at lw_m1 111 rfl) rfl
theorem q137 : (Jvm.Cond.code ({ cls := "ConflictSets", name := "putFix", desc := "(I)V" } : Jvm.MethodName) prog_1_method_35_code (3 : Nat) (Option.none : Option Jvm.ClassFile.FieldType)) ∈ lw_all := lw_g (lw_at lw_m1 112 rfl) rfl
theorem q138 : (Jvm.Cond.methodLink "ConflictSets" (83 : Nat) ({ cls := "ConflictSets", name := "takeParts", desc := "(I)V" } : Jvm.MethodName)) ∈ lw_all := lw_g (lw_at lw_m1 113 rfl) rfl
theorem q139 : (Jvm.Cond.privateMethod ({ cls := "ConflictSets", name := "takeParts", desc := "(I)V" } : Jvm.MethodName)) ∈ lw_tbl := lw_at lw_m1 114 rfl
theorem q140 : (Jvm.Cond.instanceMethod ({ cls := "ConflictSets", name := "takeParts", desc := "(I)V" } : Jvm.MethodName)) ∈ lw_all := lw_g (lw_at lw_m1 115 rfl) rfl
theorem q141 : (Jvm.Cond.code ({ cls := "ConflictSets", name := "takeParts", desc := "(I)V" } : Jvm.MethodName) prog_1_method_32_code (4 : Nat) (Option.none : Option Jvm.ClassFile.FieldType)) ∈ lw_all := lw_g (lw_at lw_m1 116 rfl) rfl
theorem q142 : (Jvm.Cond.methodLink "ConflictSets" (96 : Nat) ({ cls := "ConflictSets", name := "takeOff", desc := "(I)V" } : Jvm.MethodName)) ∈ lw_all := lw_g (lw_at lw_m1 117 rfl) rfl
theorem q143 : (Jvm.Cond.privateMethod ({ cls := "ConflictSets", name := "takeOff", desc := "(I)V" } : Jvm.MethodName)) ∈ lw_tbl := lw_at lw_m1 118 rfl
theorem q144 : (Jvm.Cond.instanceMethod ({ cls := "ConflictSets", name := "takeOff", desc := "(I)V" } : Jvm.MethodName)) ∈ lw_all := lw_g (lw_at lw_m1 119 rfl) rfl
theorem q145 : (Jvm.Cond.code ({ cls := "ConflictSets", name := "takeOff", desc := "(I)V" } : Jvm.MethodName) prog_1_method_28_code (2 : Nat) (Option.none : Option Jvm.ClassFile.FieldType)) ∈ lw_all := lw_g (lw_at lw_m1 120 rfl) rfl
theorem q146 : (Jvm.Cond.methodLink "ConflictSets" (86 : Nat) ({ cls := "ConflictSets", name := "shrink", desc := "(I)I" } : Jvm.MethodName)) ∈ lw_all := lw_g (lw_at lw_m1 121 rfl) rfl
theorem q147 : (Jvm.Cond.privateMethod ({ cls := "ConflictSets", name := "shrink", desc := "(I)I" } : Jvm.MethodName)) ∈ lw_tbl := lw_at lw_m1 122 rfl
theorem q148 : (Jvm.Cond.instanceMethod ({ cls := "ConflictSets", name := "shrink", desc := "(I)I" } : Jvm.MethodName)) ∈ lw_all := lw_g (lw_at lw_m1 123 rfl) rfl
theorem q149 : (Jvm.Cond.code ({ cls := "ConflictSets", name := "shrink", desc := "(I)I" } : Jvm.MethodName) prog_1_method_31_code (5 : Nat) (Option.some Jvm.ClassFile.FieldType.int)) ∈ lw_all := lw_g (lw_at lw_m1 124 rfl) rfl
theorem q150 : (Jvm.Cond.methodLink "ConflictSets" (89 : Nat) ({ cls := "ConflictSets", name := "putKernel", desc := "(I)V" } : Jvm.MethodName)) ∈ lw_all := lw_g (lw_at lw_m1 125 rfl) rfl
theorem q151 : (Jvm.Cond.privateMethod ({ cls := "ConflictSets", name := "putKernel", desc := "(I)V" } : Jvm.MethodName)) ∈ lw_tbl := lw_at lw_m1 126 rfl
theorem q152 : (Jvm.Cond.instanceMethod ({ cls := "ConflictSets", name := "putKernel", desc := "(I)V" } : Jvm.MethodName)) ∈ lw_all := lw_g (lw_at lw_m1 127 rfl) rfl
theorem q153 : (Jvm.Cond.code ({ cls := "ConflictSets", name := "putKernel", desc := "(I)V" } : Jvm.MethodName) prog_1_method_34_code (3 : Nat) (Option.none : Option Jvm.ClassFile.FieldType)) ∈ lw_all := lw_g (lw_at lw_m1 128 rfl) rfl
theorem q154 : (Jvm.Cond.methodLink "ConflictSets" (92 : Nat) ({ cls := "ConflictSets", name := "takeAround", desc := "(II)V" } : Jvm.MethodName)) ∈ lw_all := lw_g (lw_at lw_m1 129 rfl) rfl
theorem q155 : (Jvm.Cond.privateMethod ({ cls := "ConflictSets", name := "takeAround", desc := "(II)V" } : Jvm.MethodName)) ∈ lw_tbl := lw_at lw_m1 130 rfl
theorem q156 : (Jvm.Cond.instanceMethod ({ cls := "ConflictSets", name := "takeAround", desc := "(II)V" } : Jvm.MethodName)) ∈ lw_all := lw_g (lw_at lw_m1 131 rfl) rfl
theorem q157 : (Jvm.Cond.code ({ cls := "ConflictSets", name := "takeAround", desc := "(II)V" } : Jvm.MethodName) prog_1_method_33_code (6 : Nat) (Option.none : Option Jvm.ClassFile.FieldType)) ∈ lw_all := lw_g (lw_at lw_m1 132 rfl) rfl
theorem q159 : (Jvm.Cond.instanceMethod ({ cls := "ConflictSets", name := "kernel", desc := "(I)I" } : Jvm.MethodName)) ∈ lw_all := lw_g (lw_at lw_m1 134 rfl) rfl
theorem q160 : (Jvm.Cond.selects "ConflictSets" ({ cls := "ConflictSets", name := "kernel", desc := "(I)I" } : Jvm.MethodName) ({ cls := "ConflictSets", name := "kernel", desc := "(I)I" } : Jvm.MethodName)) ∈ lw_all := lw_g (lw_at lw_m1 135 rfl) rfl
theorem q161 : (Jvm.Cond.code ({ cls := "ConflictSets", name := "kernel", desc := "(I)I" } : Jvm.MethodName) prog_1_method_11_code (2 : Nat) (Option.some Jvm.ClassFile.FieldType.int)) ∈ lw_all := lw_g (lw_at lw_m1 136 rfl) rfl
theorem q163 : (Jvm.Cond.instanceMethod ({ cls := "ConflictSets", name := "corrections", desc := "()I" } : Jvm.MethodName)) ∈ lw_all := lw_g (lw_at lw_m1 138 rfl) rfl
theorem q164 : (Jvm.Cond.selects "ConflictSets" ({ cls := "ConflictSets", name := "corrections", desc := "()I" } : Jvm.MethodName) ({ cls := "ConflictSets", name := "corrections", desc := "()I" } : Jvm.MethodName)) ∈ lw_all := lw_g (lw_at lw_m1 139 rfl) rfl
theorem q165 : (Jvm.Cond.code ({ cls := "ConflictSets", name := "corrections", desc := "()I" } : Jvm.MethodName) prog_1_method_12_code (1 : Nat) (Option.some Jvm.ClassFile.FieldType.int)) ∈ lw_all := lw_g (lw_at lw_m1 140 rfl) rfl
theorem q167 : (Jvm.Cond.instanceMethod ({ cls := "ConflictSets", name := "correction", desc := "(I)I" } : Jvm.MethodName)) ∈ lw_all := lw_g (lw_at lw_m1 142 rfl) rfl
theorem q168 : (Jvm.Cond.selects "ConflictSets" ({ cls := "ConflictSets", name := "correction", desc := "(I)I" } : Jvm.MethodName) ({ cls := "ConflictSets", name := "correction", desc := "(I)I" } : Jvm.MethodName)) ∈ lw_all := lw_g (lw_at lw_m1 143 rfl) rfl
theorem q169 : (Jvm.Cond.code ({ cls := "ConflictSets", name := "correction", desc := "(I)I" } : Jvm.MethodName) prog_1_method_13_code (2 : Nat) (Option.some Jvm.ClassFile.FieldType.int)) ∈ lw_all := lw_g (lw_at lw_m1 144 rfl) rfl
theorem q171 : (Jvm.Cond.instanceMethod ({ cls := "ConflictSets", name := "cheapest", desc := "()I" } : Jvm.MethodName)) ∈ lw_all := lw_g (lw_at lw_m1 146 rfl) rfl
theorem q172 : (Jvm.Cond.selects "ConflictSets" ({ cls := "ConflictSets", name := "cheapest", desc := "()I" } : Jvm.MethodName) ({ cls := "ConflictSets", name := "cheapest", desc := "()I" } : Jvm.MethodName)) ∈ lw_all := lw_g (lw_at lw_m1 147 rfl) rfl
theorem q173 : (Jvm.Cond.code ({ cls := "ConflictSets", name := "cheapest", desc := "()I" } : Jvm.MethodName) prog_1_method_14_code (2 : Nat) (Option.some Jvm.ClassFile.FieldType.int)) ∈ lw_all := lw_g (lw_at lw_m1 148 rfl) rfl
theorem q174 : (Jvm.Cond.methodLink "ConflictSets" (62 : Nat) ({ cls := "ConflictSets", name := "cheapestSet", desc := "()I" } : Jvm.MethodName)) ∈ lw_all := lw_g (lw_at lw_m1 149 rfl) rfl
theorem q175 : (Jvm.Cond.instanceMethod ({ cls := "ConflictSets", name := "cheapestSet", desc := "()I" } : Jvm.MethodName)) ∈ lw_all := lw_g (lw_at lw_m1 150 rfl) rfl
theorem q176 : (Jvm.Cond.selects "ConflictSets" ({ cls := "ConflictSets", name := "cheapestSet", desc := "()I" } : Jvm.MethodName) ({ cls := "ConflictSets", name := "cheapestSet", desc := "()I" } : Jvm.MethodName)) ∈ lw_all := lw_g (lw_at lw_m1 151 rfl) rfl
theorem q177 : (Jvm.Cond.code ({ cls := "ConflictSets", name := "cheapestSet", desc := "()I" } : Jvm.MethodName) prog_1_method_15_code (3 : Nat) (Option.some Jvm.ClassFile.FieldType.int)) ∈ lw_all := lw_g (lw_at lw_m1 152 rfl) rfl
theorem q178 : (Jvm.Cond.methodLink "ConflictSets" (66 : Nat) ({ cls := "ConflictSets", name := "priceOf", desc := "(I)I" } : Jvm.MethodName)) ∈ lw_all := lw_g (lw_at lw_m1 153 rfl) rfl
theorem q179 : (Jvm.Cond.privateMethod ({ cls := "ConflictSets", name := "priceOf", desc := "(I)I" } : Jvm.MethodName)) ∈ lw_tbl := lw_at lw_m1 154 rfl
theorem q180 : (Jvm.Cond.instanceMethod ({ cls := "ConflictSets", name := "priceOf", desc := "(I)I" } : Jvm.MethodName)) ∈ lw_all := lw_g (lw_at lw_m1 155 rfl) rfl
theorem q181 : (Jvm.Cond.code ({ cls := "ConflictSets", name := "priceOf", desc := "(I)I" } : Jvm.MethodName) prog_1_method_24_code (4 : Nat) (Option.some Jvm.ClassFile.FieldType.int)) ∈ lw_all := lw_g (lw_at lw_m1 156 rfl) rfl
theorem q184 : (Jvm.Cond.instanceMethod ({ cls := "ConflictSets", name := "smallest", desc := "()I" } : Jvm.MethodName)) ∈ lw_all := lw_g (lw_at lw_m1 159 rfl) rfl
theorem q185 : (Jvm.Cond.selects "ConflictSets" ({ cls := "ConflictSets", name := "smallest", desc := "()I" } : Jvm.MethodName) ({ cls := "ConflictSets", name := "smallest", desc := "()I" } : Jvm.MethodName)) ∈ lw_all := lw_g (lw_at lw_m1 160 rfl) rfl
theorem q186 : (Jvm.Cond.code ({ cls := "ConflictSets", name := "smallest", desc := "()I" } : Jvm.MethodName) prog_1_method_16_code (4 : Nat) (Option.some Jvm.ClassFile.FieldType.int)) ∈ lw_all := lw_g (lw_at lw_m1 161 rfl) rfl
theorem q187 : (Jvm.Cond.methodLink "ConflictSets" (69 : Nat) ({ cls := "ConflictSets", name := "ones", desc := "(I)I" } : Jvm.MethodName)) ∈ lw_all := lw_g (lw_at lw_m1 162 rfl) rfl
theorem q188 : (Jvm.Cond.static ({ cls := "ConflictSets", name := "ones", desc := "(I)I" } : Jvm.MethodName)) ∈ lw_all := lw_g (lw_at lw_m1 163 rfl) rfl
theorem q189 : (Jvm.Cond.code ({ cls := "ConflictSets", name := "ones", desc := "(I)I" } : Jvm.MethodName) prog_1_method_23_code (3 : Nat) (Option.some Jvm.ClassFile.FieldType.int)) ∈ lw_all := lw_g (lw_at lw_m1 164 rfl) rfl
theorem q191 : (Jvm.Cond.instanceMethod ({ cls := "ConflictSets", name := "blame", desc := "(I)I" } : Jvm.MethodName)) ∈ lw_all := lw_g (lw_at lw_m1 166 rfl) rfl
theorem q192 : (Jvm.Cond.selects "ConflictSets" ({ cls := "ConflictSets", name := "blame", desc := "(I)I" } : Jvm.MethodName) ({ cls := "ConflictSets", name := "blame", desc := "(I)I" } : Jvm.MethodName)) ∈ lw_all := lw_g (lw_at lw_m1 167 rfl) rfl
theorem q193 : (Jvm.Cond.code ({ cls := "ConflictSets", name := "blame", desc := "(I)I" } : Jvm.MethodName) prog_1_method_17_code (4 : Nat) (Option.some Jvm.ClassFile.FieldType.int)) ∈ lw_all := lw_g (lw_at lw_m1 168 rfl) rfl
theorem q195 : (Jvm.Cond.instanceMethod ({ cls := "ConflictSets", name := "core", desc := "()I" } : Jvm.MethodName)) ∈ lw_all := lw_g (lw_at lw_m1 170 rfl) rfl
theorem q196 : (Jvm.Cond.selects "ConflictSets" ({ cls := "ConflictSets", name := "core", desc := "()I" } : Jvm.MethodName) ({ cls := "ConflictSets", name := "core", desc := "()I" } : Jvm.MethodName)) ∈ lw_all := lw_g (lw_at lw_m1 171 rfl) rfl
theorem q197 : (Jvm.Cond.code ({ cls := "ConflictSets", name := "core", desc := "()I" } : Jvm.MethodName) prog_1_method_18_code (3 : Nat) (Option.some Jvm.ClassFile.FieldType.int)) ∈ lw_all := lw_g (lw_at lw_m1 172 rfl) rfl
theorem q199 : (Jvm.Cond.instanceMethod ({ cls := "ConflictSets", name := "sort", desc := "(I)I" } : Jvm.MethodName)) ∈ lw_all := lw_g (lw_at lw_m1 174 rfl) rfl
theorem q200 : (Jvm.Cond.selects "ConflictSets" ({ cls := "ConflictSets", name := "sort", desc := "(I)I" } : Jvm.MethodName) ({ cls := "ConflictSets", name := "sort", desc := "(I)I" } : Jvm.MethodName)) ∈ lw_all := lw_g (lw_at lw_m1 175 rfl) rfl
theorem q201 : (Jvm.Cond.code ({ cls := "ConflictSets", name := "sort", desc := "(I)I" } : Jvm.MethodName) prog_1_method_19_code (3 : Nat) (Option.some Jvm.ClassFile.FieldType.int)) ∈ lw_all := lw_g (lw_at lw_m1 176 rfl) rfl
theorem q203 : (Jvm.Cond.instanceMethod ({ cls := "ConflictSets", name := "width", desc := "(I)I" } : Jvm.MethodName)) ∈ lw_all := lw_g (lw_at lw_m1 178 rfl) rfl
theorem q204 : (Jvm.Cond.selects "ConflictSets" ({ cls := "ConflictSets", name := "width", desc := "(I)I" } : Jvm.MethodName) ({ cls := "ConflictSets", name := "width", desc := "(I)I" } : Jvm.MethodName)) ∈ lw_all := lw_g (lw_at lw_m1 179 rfl) rfl
theorem q205 : (Jvm.Cond.code ({ cls := "ConflictSets", name := "width", desc := "(I)I" } : Jvm.MethodName) prog_1_method_20_code (4 : Nat) (Option.some Jvm.ClassFile.FieldType.int)) ∈ lw_all := lw_g (lw_at lw_m1 180 rfl) rfl
theorem in_X0 : ∀ w ∈ wsX00, w ∈ lw_all := lw_in wsX00 [47, 49, 51, 53, 55, 57, 59, 61, 63, 65, 67] (by decide +kernel) (by decide +kernel)
end
section
/-! ConflictSetsModel -/
set_option maxRecDepth 100000
def RX1 : String := "ConflictSetsModel"
def TX1 : u_T := fun k => match k with
  | 0 => ("ConflictSetsModel", "draft", "I", false)
  | 1 => ("ConflictSetsModel", "count", "I", false)
  | 2 => ("ConflictSetsModel", "literals", "[I", false)
  | 3 => ("ConflictSetsModel", "prices", "[I", false)
  | _ => ("ConflictSetsModel", "able", "[Z", false)
def tyX1 : Nat → FieldType := fun k => match k with
  | 0 => .int
  | 1 => .int
  | 2 => .array .int
  | 3 => .array .int
  | _ => .array .boolean
abbrev wsX10 : List Cond := u_ws RX1 TX1 5
theorem nmX1 : ∀ a, a < 5 → ∀ b, b < 5 → a ≠ b → (TX1 a).2.1 ≠ (TX1 b).2.1 := by decide +kernel
theorem tyX1_ok : ∀ k, k < 5 → parseFieldDescriptor (TX1 k).2.2.1 = some (tyX1 k) := by decide +kernel
abbrev cX1_init : ByteArray := prog_3_method_1_code
def yX1_init : MethodName := ⟨RX1, "<init>", "()V"⟩
theorem dX1_init_0 : decode cX1_init 0 = .ok (.aload_n 0, 1) := by decide +kernel
theorem dX1_init_1 : decode cX1_init 1 = .ok (.invokespecial 1, 3) := by decide +kernel
theorem dX1_init_4 : decode cX1_init 4 = .ok (.aload_n 0, 1) := by decide +kernel
theorem dX1_init_5 : decode cX1_init 5 = .ok (.bipush 9, 2) := by decide +kernel
theorem dX1_init_7 : decode cX1_init 7 = .ok (.newarray .int, 2) := by decide +kernel
theorem dX1_init_9 : decode cX1_init 9 = .ok (.putfield 7, 3) := by decide +kernel
theorem dX1_init_12 : decode cX1_init 12 = .ok (.aload_n 0, 1) := by decide +kernel
theorem dX1_init_13 : decode cX1_init 13 = .ok (.bipush 9, 2) := by decide +kernel
theorem dX1_init_15 : decode cX1_init 15 = .ok (.newarray .int, 2) := by decide +kernel
theorem dX1_init_17 : decode cX1_init 17 = .ok (.putfield 13, 3) := by decide +kernel
theorem dX1_init_20 : decode cX1_init 20 = .ok (.aload_n 0, 1) := by decide +kernel
theorem dX1_init_21 : decode cX1_init 21 = .ok (.sipush 512, 3) := by decide +kernel
theorem dX1_init_24 : decode cX1_init 24 = .ok (.newarray .boolean, 2) := by decide +kernel
theorem dX1_init_26 : decode cX1_init 26 = .ok (.putfield 16, 3) := by decide +kernel
theorem dX1_init_29 : decode cX1_init 29 = .ok (.return_, 1) := by decide +kernel
abbrev cX1_literal : ByteArray := prog_3_method_3_code
def yX1_literal : MethodName := ⟨RX1, "literal", "(I)I"⟩
theorem dX1_literal_0 : decode cX1_literal 0 = .ok (.iload_n 1, 1) := by decide +kernel
theorem dX1_literal_1 : decode cX1_literal 1 = .ok (.ifCond .lt 9, 3) := by decide +kernel
theorem dX1_literal_4 : decode cX1_literal 4 = .ok (.iload_n 1, 1) := by decide +kernel
theorem dX1_literal_5 : decode cX1_literal 5 = .ok (.bipush 9, 2) := by decide +kernel
theorem dX1_literal_7 : decode cX1_literal 7 = .ok (.if_icmp .le 5, 3) := by decide +kernel
theorem dX1_literal_10 : decode cX1_literal 10 = .ok (.iconst (-1), 1) := by decide +kernel
theorem dX1_literal_11 : decode cX1_literal 11 = .ok (.ireturn, 1) := by decide +kernel
theorem dX1_literal_12 : decode cX1_literal 12 = .ok (.aload_n 0, 1) := by decide +kernel
theorem dX1_literal_13 : decode cX1_literal 13 = .ok (.getfield 20, 3) := by decide +kernel
theorem dX1_literal_16 : decode cX1_literal 16 = .ok (.iconst 1, 1) := by decide +kernel
theorem dX1_literal_17 : decode cX1_literal 17 = .ok (.iload_n 1, 1) := by decide +kernel
theorem dX1_literal_18 : decode cX1_literal 18 = .ok (.ishl, 1) := by decide +kernel
theorem dX1_literal_19 : decode cX1_literal 19 = .ok (.ior, 1) := by decide +kernel
theorem dX1_literal_20 : decode cX1_literal 20 = .ok (.istore_n 2, 1) := by decide +kernel
theorem dX1_literal_21 : decode cX1_literal 21 = .ok (.aload_n 0, 1) := by decide +kernel
theorem dX1_literal_22 : decode cX1_literal 22 = .ok (.iload_n 2, 1) := by decide +kernel
theorem dX1_literal_23 : decode cX1_literal 23 = .ok (.invokevirtual 24, 3) := by decide +kernel
theorem dX1_literal_26 : decode cX1_literal 26 = .ok (.iconst 4, 1) := by decide +kernel
theorem dX1_literal_27 : decode cX1_literal 27 = .ok (.if_icmp .le 6, 3) := by decide +kernel
theorem dX1_literal_30 : decode cX1_literal 30 = .ok (.bipush (-2), 2) := by decide +kernel
theorem dX1_literal_32 : decode cX1_literal 32 = .ok (.ireturn, 1) := by decide +kernel
theorem dX1_literal_33 : decode cX1_literal 33 = .ok (.aload_n 0, 1) := by decide +kernel
theorem dX1_literal_34 : decode cX1_literal 34 = .ok (.iload_n 2, 1) := by decide +kernel
theorem dX1_literal_35 : decode cX1_literal 35 = .ok (.putfield 20, 3) := by decide +kernel
theorem dX1_literal_38 : decode cX1_literal 38 = .ok (.aload_n 0, 1) := by decide +kernel
theorem dX1_literal_39 : decode cX1_literal 39 = .ok (.aload_n 0, 1) := by decide +kernel
theorem dX1_literal_40 : decode cX1_literal 40 = .ok (.getfield 20, 3) := by decide +kernel
theorem dX1_literal_43 : decode cX1_literal 43 = .ok (.invokevirtual 24, 3) := by decide +kernel
theorem dX1_literal_46 : decode cX1_literal 46 = .ok (.ireturn, 1) := by decide +kernel
abbrev cX1_size : ByteArray := prog_3_method_2_code
def yX1_size : MethodName := ⟨RX1, "size", "(I)I"⟩
theorem dX1_size_0 : decode cX1_size 0 = .ok (.iconst 0, 1) := by decide +kernel
theorem dX1_size_1 : decode cX1_size 1 = .ok (.istore_n 2, 1) := by decide +kernel
theorem dX1_size_2 : decode cX1_size 2 = .ok (.iconst 0, 1) := by decide +kernel
theorem dX1_size_3 : decode cX1_size 3 = .ok (.istore_n 3, 1) := by decide +kernel
theorem dX1_size_4 : decode cX1_size 4 = .ok (.iload_n 3, 1) := by decide +kernel
theorem dX1_size_5 : decode cX1_size 5 = .ok (.bipush 10, 2) := by decide +kernel
theorem dX1_size_7 : decode cX1_size 7 = .ok (.if_icmp .ge 17, 3) := by decide +kernel
theorem dX1_size_10 : decode cX1_size 10 = .ok (.iload_n 2, 1) := by decide +kernel
theorem dX1_size_11 : decode cX1_size 11 = .ok (.iload_n 1, 1) := by decide +kernel
theorem dX1_size_12 : decode cX1_size 12 = .ok (.iload_n 3, 1) := by decide +kernel
theorem dX1_size_13 : decode cX1_size 13 = .ok (.ishr, 1) := by decide +kernel
theorem dX1_size_14 : decode cX1_size 14 = .ok (.iconst 1, 1) := by decide +kernel
theorem dX1_size_15 : decode cX1_size 15 = .ok (.iand, 1) := by decide +kernel
theorem dX1_size_16 : decode cX1_size 16 = .ok (.iadd, 1) := by decide +kernel
theorem dX1_size_17 : decode cX1_size 17 = .ok (.istore_n 2, 1) := by decide +kernel
theorem dX1_size_18 : decode cX1_size 18 = .ok (.iinc 3 1, 3) := by decide +kernel
theorem dX1_size_21 : decode cX1_size 21 = .ok (.goto (-17), 3) := by decide +kernel
theorem dX1_size_24 : decode cX1_size 24 = .ok (.iload_n 2, 1) := by decide +kernel
theorem dX1_size_25 : decode cX1_size 25 = .ok (.ireturn, 1) := by decide +kernel
abbrev cX1_add : ByteArray := prog_3_method_4_code
def yX1_add : MethodName := ⟨RX1, "add", "()I"⟩
theorem dX1_add_0 : decode cX1_add 0 = .ok (.aload_n 0, 1) := by decide +kernel
theorem dX1_add_1 : decode cX1_add 1 = .ok (.getfield 20, 3) := by decide +kernel
theorem dX1_add_4 : decode cX1_add 4 = .ok (.ifCond .ne 5, 3) := by decide +kernel
theorem dX1_add_7 : decode cX1_add 7 = .ok (.iconst (-1), 1) := by decide +kernel
theorem dX1_add_8 : decode cX1_add 8 = .ok (.ireturn, 1) := by decide +kernel
theorem dX1_add_9 : decode cX1_add 9 = .ok (.aload_n 0, 1) := by decide +kernel
theorem dX1_add_10 : decode cX1_add 10 = .ok (.getfield 28, 3) := by decide +kernel
theorem dX1_add_13 : decode cX1_add 13 = .ok (.istore_n 1, 1) := by decide +kernel
theorem dX1_add_14 : decode cX1_add 14 = .ok (.iload_n 1, 1) := by decide +kernel
theorem dX1_add_15 : decode cX1_add 15 = .ok (.bipush 8, 2) := by decide +kernel
theorem dX1_add_17 : decode cX1_add 17 = .ok (.if_icmp .le 6, 3) := by decide +kernel
theorem dX1_add_20 : decode cX1_add 20 = .ok (.bipush (-2), 2) := by decide +kernel
theorem dX1_add_22 : decode cX1_add 22 = .ok (.ireturn, 1) := by decide +kernel
theorem dX1_add_23 : decode cX1_add 23 = .ok (.aload_n 0, 1) := by decide +kernel
theorem dX1_add_24 : decode cX1_add 24 = .ok (.getfield 7, 3) := by decide +kernel
theorem dX1_add_27 : decode cX1_add 27 = .ok (.iload_n 1, 1) := by decide +kernel
theorem dX1_add_28 : decode cX1_add 28 = .ok (.aload_n 0, 1) := by decide +kernel
theorem dX1_add_29 : decode cX1_add 29 = .ok (.getfield 20, 3) := by decide +kernel
theorem dX1_add_32 : decode cX1_add 32 = .ok (.iastore, 1) := by decide +kernel
theorem dX1_add_33 : decode cX1_add 33 = .ok (.aload_n 0, 1) := by decide +kernel
theorem dX1_add_34 : decode cX1_add 34 = .ok (.getfield 13, 3) := by decide +kernel
theorem dX1_add_37 : decode cX1_add 37 = .ok (.iload_n 1, 1) := by decide +kernel
theorem dX1_add_38 : decode cX1_add 38 = .ok (.iconst 1, 1) := by decide +kernel
theorem dX1_add_39 : decode cX1_add 39 = .ok (.iastore, 1) := by decide +kernel
theorem dX1_add_40 : decode cX1_add 40 = .ok (.aload_n 0, 1) := by decide +kernel
theorem dX1_add_41 : decode cX1_add 41 = .ok (.iload_n 1, 1) := by decide +kernel
theorem dX1_add_42 : decode cX1_add 42 = .ok (.iconst 1, 1) := by decide +kernel
theorem dX1_add_43 : decode cX1_add 43 = .ok (.iadd, 1) := by decide +kernel
theorem dX1_add_44 : decode cX1_add 44 = .ok (.putfield 28, 3) := by decide +kernel
theorem dX1_add_47 : decode cX1_add 47 = .ok (.aload_n 0, 1) := by decide +kernel
theorem dX1_add_48 : decode cX1_add 48 = .ok (.iconst 0, 1) := by decide +kernel
theorem dX1_add_49 : decode cX1_add 49 = .ok (.putfield 20, 3) := by decide +kernel
theorem dX1_add_52 : decode cX1_add 52 = .ok (.iload_n 1, 1) := by decide +kernel
theorem dX1_add_53 : decode cX1_add 53 = .ok (.ireturn, 1) := by decide +kernel
abbrev cX1_clear : ByteArray := prog_3_method_5_code
def yX1_clear : MethodName := ⟨RX1, "clear", "()I"⟩
theorem dX1_clear_0 : decode cX1_clear 0 = .ok (.aload_n 0, 1) := by decide +kernel
theorem dX1_clear_1 : decode cX1_clear 1 = .ok (.aload_n 0, 1) := by decide +kernel
theorem dX1_clear_2 : decode cX1_clear 2 = .ok (.getfield 20, 3) := by decide +kernel
theorem dX1_clear_5 : decode cX1_clear 5 = .ok (.invokevirtual 24, 3) := by decide +kernel
theorem dX1_clear_8 : decode cX1_clear 8 = .ok (.istore_n 1, 1) := by decide +kernel
theorem dX1_clear_9 : decode cX1_clear 9 = .ok (.aload_n 0, 1) := by decide +kernel
theorem dX1_clear_10 : decode cX1_clear 10 = .ok (.iconst 0, 1) := by decide +kernel
theorem dX1_clear_11 : decode cX1_clear 11 = .ok (.putfield 20, 3) := by decide +kernel
theorem dX1_clear_14 : decode cX1_clear 14 = .ok (.iload_n 1, 1) := by decide +kernel
theorem dX1_clear_15 : decode cX1_clear 15 = .ok (.ireturn, 1) := by decide +kernel
abbrev cX1_remove : ByteArray := prog_3_method_7_code
def yX1_remove : MethodName := ⟨RX1, "remove", "(I)I"⟩
theorem dX1_remove_0 : decode cX1_remove 0 = .ok (.aload_n 0, 1) := by decide +kernel
theorem dX1_remove_1 : decode cX1_remove 1 = .ok (.iload_n 1, 1) := by decide +kernel
theorem dX1_remove_2 : decode cX1_remove 2 = .ok (.invokevirtual 31, 3) := by decide +kernel
theorem dX1_remove_5 : decode cX1_remove 5 = .ok (.ifCond .eq 5, 3) := by decide +kernel
theorem dX1_remove_8 : decode cX1_remove 8 = .ok (.iconst (-1), 1) := by decide +kernel
theorem dX1_remove_9 : decode cX1_remove 9 = .ok (.ireturn, 1) := by decide +kernel
theorem dX1_remove_10 : decode cX1_remove 10 = .ok (.iload_n 1, 1) := by decide +kernel
theorem dX1_remove_11 : decode cX1_remove 11 = .ok (.istore_n 2, 1) := by decide +kernel
theorem dX1_remove_12 : decode cX1_remove 12 = .ok (.iload_n 2, 1) := by decide +kernel
theorem dX1_remove_13 : decode cX1_remove 13 = .ok (.aload_n 0, 1) := by decide +kernel
theorem dX1_remove_14 : decode cX1_remove 14 = .ok (.getfield 28, 3) := by decide +kernel
theorem dX1_remove_17 : decode cX1_remove 17 = .ok (.iconst 1, 1) := by decide +kernel
theorem dX1_remove_18 : decode cX1_remove 18 = .ok (.isub, 1) := by decide +kernel
theorem dX1_remove_19 : decode cX1_remove 19 = .ok (.if_icmp .ge 43, 3) := by decide +kernel
theorem dX1_remove_22 : decode cX1_remove 22 = .ok (.iload_n 2, 1) := by decide +kernel
theorem dX1_remove_23 : decode cX1_remove 23 = .ok (.bipush 8, 2) := by decide +kernel
theorem dX1_remove_25 : decode cX1_remove 25 = .ok (.if_icmp .ge 37, 3) := by decide +kernel
theorem dX1_remove_28 : decode cX1_remove 28 = .ok (.aload_n 0, 1) := by decide +kernel
theorem dX1_remove_29 : decode cX1_remove 29 = .ok (.getfield 7, 3) := by decide +kernel
theorem dX1_remove_32 : decode cX1_remove 32 = .ok (.iload_n 2, 1) := by decide +kernel
theorem dX1_remove_33 : decode cX1_remove 33 = .ok (.aload_n 0, 1) := by decide +kernel
theorem dX1_remove_34 : decode cX1_remove 34 = .ok (.getfield 7, 3) := by decide +kernel
theorem dX1_remove_37 : decode cX1_remove 37 = .ok (.iload_n 2, 1) := by decide +kernel
theorem dX1_remove_38 : decode cX1_remove 38 = .ok (.iconst 1, 1) := by decide +kernel
theorem dX1_remove_39 : decode cX1_remove 39 = .ok (.iadd, 1) := by decide +kernel
theorem dX1_remove_40 : decode cX1_remove 40 = .ok (.iaload, 1) := by decide +kernel
theorem dX1_remove_41 : decode cX1_remove 41 = .ok (.iastore, 1) := by decide +kernel
theorem dX1_remove_42 : decode cX1_remove 42 = .ok (.aload_n 0, 1) := by decide +kernel
theorem dX1_remove_43 : decode cX1_remove 43 = .ok (.getfield 13, 3) := by decide +kernel
theorem dX1_remove_46 : decode cX1_remove 46 = .ok (.iload_n 2, 1) := by decide +kernel
theorem dX1_remove_47 : decode cX1_remove 47 = .ok (.aload_n 0, 1) := by decide +kernel
theorem dX1_remove_48 : decode cX1_remove 48 = .ok (.getfield 13, 3) := by decide +kernel
theorem dX1_remove_51 : decode cX1_remove 51 = .ok (.iload_n 2, 1) := by decide +kernel
theorem dX1_remove_52 : decode cX1_remove 52 = .ok (.iconst 1, 1) := by decide +kernel
theorem dX1_remove_53 : decode cX1_remove 53 = .ok (.iadd, 1) := by decide +kernel
theorem dX1_remove_54 : decode cX1_remove 54 = .ok (.iaload, 1) := by decide +kernel
theorem dX1_remove_55 : decode cX1_remove 55 = .ok (.iastore, 1) := by decide +kernel
theorem dX1_remove_56 : decode cX1_remove 56 = .ok (.iinc 2 1, 3) := by decide +kernel
theorem dX1_remove_59 : decode cX1_remove 59 = .ok (.goto (-47), 3) := by decide +kernel
theorem dX1_remove_62 : decode cX1_remove 62 = .ok (.aload_n 0, 1) := by decide +kernel
theorem dX1_remove_63 : decode cX1_remove 63 = .ok (.dup, 1) := by decide +kernel
theorem dX1_remove_64 : decode cX1_remove 64 = .ok (.getfield 28, 3) := by decide +kernel
theorem dX1_remove_67 : decode cX1_remove 67 = .ok (.iconst 1, 1) := by decide +kernel
theorem dX1_remove_68 : decode cX1_remove 68 = .ok (.isub, 1) := by decide +kernel
theorem dX1_remove_69 : decode cX1_remove 69 = .ok (.putfield 28, 3) := by decide +kernel
theorem dX1_remove_72 : decode cX1_remove 72 = .ok (.aload_n 0, 1) := by decide +kernel
theorem dX1_remove_73 : decode cX1_remove 73 = .ok (.getfield 28, 3) := by decide +kernel
theorem dX1_remove_76 : decode cX1_remove 76 = .ok (.ireturn, 1) := by decide +kernel
abbrev cX1_bad : ByteArray := prog_3_method_6_code
def yX1_bad : MethodName := ⟨RX1, "bad", "(I)Z"⟩
theorem dX1_bad_0 : decode cX1_bad 0 = .ok (.iload_n 1, 1) := by decide +kernel
theorem dX1_bad_1 : decode cX1_bad 1 = .ok (.ifCond .lt 17, 3) := by decide +kernel
theorem dX1_bad_4 : decode cX1_bad 4 = .ok (.iload_n 1, 1) := by decide +kernel
theorem dX1_bad_5 : decode cX1_bad 5 = .ok (.aload_n 0, 1) := by decide +kernel
theorem dX1_bad_6 : decode cX1_bad 6 = .ok (.getfield 28, 3) := by decide +kernel
theorem dX1_bad_9 : decode cX1_bad 9 = .ok (.if_icmp .ge 9, 3) := by decide +kernel
theorem dX1_bad_12 : decode cX1_bad 12 = .ok (.iload_n 1, 1) := by decide +kernel
theorem dX1_bad_13 : decode cX1_bad 13 = .ok (.bipush 8, 2) := by decide +kernel
theorem dX1_bad_15 : decode cX1_bad 15 = .ok (.if_icmp .le 7, 3) := by decide +kernel
theorem dX1_bad_18 : decode cX1_bad 18 = .ok (.iconst 1, 1) := by decide +kernel
theorem dX1_bad_19 : decode cX1_bad 19 = .ok (.goto 4, 3) := by decide +kernel
theorem dX1_bad_22 : decode cX1_bad 22 = .ok (.iconst 0, 1) := by decide +kernel
theorem dX1_bad_23 : decode cX1_bad 23 = .ok (.ireturn, 1) := by decide +kernel
abbrev cX1_price : ByteArray := prog_3_method_8_code
def yX1_price : MethodName := ⟨RX1, "price", "(II)I"⟩
theorem dX1_price_0 : decode cX1_price 0 = .ok (.aload_n 0, 1) := by decide +kernel
theorem dX1_price_1 : decode cX1_price 1 = .ok (.iload_n 1, 1) := by decide +kernel
theorem dX1_price_2 : decode cX1_price 2 = .ok (.invokevirtual 31, 3) := by decide +kernel
theorem dX1_price_5 : decode cX1_price 5 = .ok (.ifCond .eq 5, 3) := by decide +kernel
theorem dX1_price_8 : decode cX1_price 8 = .ok (.iconst (-1), 1) := by decide +kernel
theorem dX1_price_9 : decode cX1_price 9 = .ok (.ireturn, 1) := by decide +kernel
theorem dX1_price_10 : decode cX1_price 10 = .ok (.iload_n 2, 1) := by decide +kernel
theorem dX1_price_11 : decode cX1_price 11 = .ok (.iconst 1, 1) := by decide +kernel
theorem dX1_price_12 : decode cX1_price 12 = .ok (.if_icmp .lt 9, 3) := by decide +kernel
theorem dX1_price_15 : decode cX1_price 15 = .ok (.iload_n 2, 1) := by decide +kernel
theorem dX1_price_16 : decode cX1_price 16 = .ok (.bipush 20, 2) := by decide +kernel
theorem dX1_price_18 : decode cX1_price 18 = .ok (.if_icmp .le 6, 3) := by decide +kernel
theorem dX1_price_21 : decode cX1_price 21 = .ok (.bipush (-2), 2) := by decide +kernel
theorem dX1_price_23 : decode cX1_price 23 = .ok (.ireturn, 1) := by decide +kernel
theorem dX1_price_24 : decode cX1_price 24 = .ok (.aload_n 0, 1) := by decide +kernel
theorem dX1_price_25 : decode cX1_price 25 = .ok (.getfield 13, 3) := by decide +kernel
theorem dX1_price_28 : decode cX1_price 28 = .ok (.iload_n 1, 1) := by decide +kernel
theorem dX1_price_29 : decode cX1_price 29 = .ok (.iaload, 1) := by decide +kernel
theorem dX1_price_30 : decode cX1_price 30 = .ok (.istore_n 3, 1) := by decide +kernel
theorem dX1_price_31 : decode cX1_price 31 = .ok (.aload_n 0, 1) := by decide +kernel
theorem dX1_price_32 : decode cX1_price 32 = .ok (.getfield 13, 3) := by decide +kernel
theorem dX1_price_35 : decode cX1_price 35 = .ok (.iload_n 1, 1) := by decide +kernel
theorem dX1_price_36 : decode cX1_price 36 = .ok (.iload_n 2, 1) := by decide +kernel
theorem dX1_price_37 : decode cX1_price 37 = .ok (.iastore, 1) := by decide +kernel
theorem dX1_price_38 : decode cX1_price 38 = .ok (.iload_n 3, 1) := by decide +kernel
theorem dX1_price_39 : decode cX1_price 39 = .ok (.ireturn, 1) := by decide +kernel
abbrev cX1_conditions : ByteArray := prog_3_method_9_code
def yX1_conditions : MethodName := ⟨RX1, "conditions", "()I"⟩
theorem dX1_conditions_0 : decode cX1_conditions 0 = .ok (.aload_n 0, 1) := by decide +kernel
theorem dX1_conditions_1 : decode cX1_conditions 1 = .ok (.getfield 28, 3) := by decide +kernel
theorem dX1_conditions_4 : decode cX1_conditions 4 = .ok (.ireturn, 1) := by decide +kernel
abbrev cX1_possible : ByteArray := prog_3_method_14_code
def yX1_possible : MethodName := ⟨RX1, "possible", "(I)I"⟩
theorem dX1_possible_0 : decode cX1_possible 0 = .ok (.aload_n 0, 1) := by decide +kernel
theorem dX1_possible_1 : decode cX1_possible 1 = .ok (.iload_n 1, 1) := by decide +kernel
theorem dX1_possible_2 : decode cX1_possible 2 = .ok (.invokevirtual 42, 3) := by decide +kernel
theorem dX1_possible_5 : decode cX1_possible 5 = .ok (.ifCond .eq 5, 3) := by decide +kernel
theorem dX1_possible_8 : decode cX1_possible 8 = .ok (.iconst (-1), 1) := by decide +kernel
theorem dX1_possible_9 : decode cX1_possible 9 = .ok (.ireturn, 1) := by decide +kernel
theorem dX1_possible_10 : decode cX1_possible 10 = .ok (.aload_n 0, 1) := by decide +kernel
theorem dX1_possible_11 : decode cX1_possible 11 = .ok (.iload_n 1, 1) := by decide +kernel
theorem dX1_possible_12 : decode cX1_possible 12 = .ok (.invokevirtual 45, 3) := by decide +kernel
theorem dX1_possible_15 : decode cX1_possible 15 = .ok (.ifCond .ge 7, 3) := by decide +kernel
theorem dX1_possible_18 : decode cX1_possible 18 = .ok (.iconst 0, 1) := by decide +kernel
theorem dX1_possible_19 : decode cX1_possible 19 = .ok (.goto 4, 3) := by decide +kernel
theorem dX1_possible_22 : decode cX1_possible 22 = .ok (.iconst 1, 1) := by decide +kernel
theorem dX1_possible_23 : decode cX1_possible 23 = .ok (.ireturn, 1) := by decide +kernel
abbrev cX1_badSet : ByteArray := prog_3_method_10_code
def yX1_badSet : MethodName := ⟨RX1, "badSet", "(I)Z"⟩
theorem dX1_badSet_0 : decode cX1_badSet 0 = .ok (.iload_n 1, 1) := by decide +kernel
theorem dX1_badSet_1 : decode cX1_badSet 1 = .ok (.ifCond .lt 13, 3) := by decide +kernel
theorem dX1_badSet_4 : decode cX1_badSet 4 = .ok (.iload_n 1, 1) := by decide +kernel
theorem dX1_badSet_5 : decode cX1_badSet 5 = .ok (.iconst 1, 1) := by decide +kernel
theorem dX1_badSet_6 : decode cX1_badSet 6 = .ok (.aload_n 0, 1) := by decide +kernel
theorem dX1_badSet_7 : decode cX1_badSet 7 = .ok (.getfield 28, 3) := by decide +kernel
theorem dX1_badSet_10 : decode cX1_badSet 10 = .ok (.ishl, 1) := by decide +kernel
theorem dX1_badSet_11 : decode cX1_badSet 11 = .ok (.if_icmp .lt 7, 3) := by decide +kernel
theorem dX1_badSet_14 : decode cX1_badSet 14 = .ok (.iconst 1, 1) := by decide +kernel
theorem dX1_badSet_15 : decode cX1_badSet 15 = .ok (.goto 4, 3) := by decide +kernel
theorem dX1_badSet_18 : decode cX1_badSet 18 = .ok (.iconst 0, 1) := by decide +kernel
theorem dX1_badSet_19 : decode cX1_badSet 19 = .ok (.ireturn, 1) := by decide +kernel
abbrev cX1_find : ByteArray := prog_3_method_13_code
def yX1_find : MethodName := ⟨RX1, "find", "(I)I"⟩
theorem dX1_find_0 : decode cX1_find 0 = .ok (.iconst 0, 1) := by decide +kernel
theorem dX1_find_1 : decode cX1_find 1 = .ok (.istore_n 2, 1) := by decide +kernel
theorem dX1_find_2 : decode cX1_find 2 = .ok (.iload_n 2, 1) := by decide +kernel
theorem dX1_find_3 : decode cX1_find 3 = .ok (.bipush 32, 2) := by decide +kernel
theorem dX1_find_5 : decode cX1_find 5 = .ok (.if_icmp .ge 20, 3) := by decide +kernel
theorem dX1_find_8 : decode cX1_find 8 = .ok (.aload_n 0, 1) := by decide +kernel
theorem dX1_find_9 : decode cX1_find 9 = .ok (.iload_n 1, 1) := by decide +kernel
theorem dX1_find_10 : decode cX1_find 10 = .ok (.iload_n 2, 1) := by decide +kernel
theorem dX1_find_11 : decode cX1_find 11 = .ok (.invokevirtual 39, 3) := by decide +kernel
theorem dX1_find_14 : decode cX1_find 14 = .ok (.ifCond .eq 5, 3) := by decide +kernel
theorem dX1_find_17 : decode cX1_find 17 = .ok (.iload_n 2, 1) := by decide +kernel
theorem dX1_find_18 : decode cX1_find 18 = .ok (.ireturn, 1) := by decide +kernel
theorem dX1_find_19 : decode cX1_find 19 = .ok (.iinc 2 1, 3) := by decide +kernel
theorem dX1_find_22 : decode cX1_find 22 = .ok (.goto (-20), 3) := by decide +kernel
theorem dX1_find_25 : decode cX1_find 25 = .ok (.bipush (-2), 2) := by decide +kernel
theorem dX1_find_27 : decode cX1_find 27 = .ok (.ireturn, 1) := by decide +kernel
abbrev cX1_all : ByteArray := prog_3_method_12_code
def yX1_all : MethodName := ⟨RX1, "all", "(II)Z"⟩
theorem dX1_all_0 : decode cX1_all 0 = .ok (.iconst 0, 1) := by decide +kernel
theorem dX1_all_1 : decode cX1_all 1 = .ok (.istore_n 3, 1) := by decide +kernel
theorem dX1_all_2 : decode cX1_all 2 = .ok (.iload_n 3, 1) := by decide +kernel
theorem dX1_all_3 : decode cX1_all 3 = .ok (.aload_n 0, 1) := by decide +kernel
theorem dX1_all_4 : decode cX1_all 4 = .ok (.getfield 28, 3) := by decide +kernel
theorem dX1_all_7 : decode cX1_all 7 = .ok (.if_icmp .ge 35, 3) := by decide +kernel
theorem dX1_all_10 : decode cX1_all 10 = .ok (.iload_n 3, 1) := by decide +kernel
theorem dX1_all_11 : decode cX1_all 11 = .ok (.bipush 9, 2) := by decide +kernel
theorem dX1_all_13 : decode cX1_all 13 = .ok (.if_icmp .ge 29, 3) := by decide +kernel
theorem dX1_all_16 : decode cX1_all 16 = .ok (.iload_n 1, 1) := by decide +kernel
theorem dX1_all_17 : decode cX1_all 17 = .ok (.iload_n 3, 1) := by decide +kernel
theorem dX1_all_18 : decode cX1_all 18 = .ok (.ishr, 1) := by decide +kernel
theorem dX1_all_19 : decode cX1_all 19 = .ok (.iconst 1, 1) := by decide +kernel
theorem dX1_all_20 : decode cX1_all 20 = .ok (.iand, 1) := by decide +kernel
theorem dX1_all_21 : decode cX1_all 21 = .ok (.iconst 1, 1) := by decide +kernel
theorem dX1_all_22 : decode cX1_all 22 = .ok (.if_icmp .ne 14, 3) := by decide +kernel
theorem dX1_all_25 : decode cX1_all 25 = .ok (.aload_n 0, 1) := by decide +kernel
theorem dX1_all_26 : decode cX1_all 26 = .ok (.iload_n 3, 1) := by decide +kernel
theorem dX1_all_27 : decode cX1_all 27 = .ok (.iload_n 2, 1) := by decide +kernel
theorem dX1_all_28 : decode cX1_all 28 = .ok (.invokevirtual 35, 3) := by decide +kernel
theorem dX1_all_31 : decode cX1_all 31 = .ok (.ifCond .ne 5, 3) := by decide +kernel
theorem dX1_all_34 : decode cX1_all 34 = .ok (.iconst 0, 1) := by decide +kernel
theorem dX1_all_35 : decode cX1_all 35 = .ok (.ireturn, 1) := by decide +kernel
theorem dX1_all_36 : decode cX1_all 36 = .ok (.iinc 3 1, 3) := by decide +kernel
theorem dX1_all_39 : decode cX1_all 39 = .ok (.goto (-37), 3) := by decide +kernel
theorem dX1_all_42 : decode cX1_all 42 = .ok (.iconst 1, 1) := by decide +kernel
theorem dX1_all_43 : decode cX1_all 43 = .ok (.ireturn, 1) := by decide +kernel
abbrev cX1_holds : ByteArray := prog_3_method_11_code
def yX1_holds : MethodName := ⟨RX1, "holds", "(II)Z"⟩
theorem dX1_holds_0 : decode cX1_holds 0 = .ok (.iconst 0, 1) := by decide +kernel
theorem dX1_holds_1 : decode cX1_holds 1 = .ok (.istore_n 3, 1) := by decide +kernel
theorem dX1_holds_2 : decode cX1_holds 2 = .ok (.iload_n 3, 1) := by decide +kernel
theorem dX1_holds_3 : decode cX1_holds 3 = .ok (.iconst 5, 1) := by decide +kernel
theorem dX1_holds_4 : decode cX1_holds 4 = .ok (.if_icmp .ge 48, 3) := by decide +kernel
theorem dX1_holds_7 : decode cX1_holds 7 = .ok (.iload_n 2, 1) := by decide +kernel
theorem dX1_holds_8 : decode cX1_holds 8 = .ok (.iload_n 3, 1) := by decide +kernel
theorem dX1_holds_9 : decode cX1_holds 9 = .ok (.ishr, 1) := by decide +kernel
theorem dX1_holds_10 : decode cX1_holds 10 = .ok (.iconst 1, 1) := by decide +kernel
theorem dX1_holds_11 : decode cX1_holds 11 = .ok (.iand, 1) := by decide +kernel
theorem dX1_holds_12 : decode cX1_holds 12 = .ok (.iconst 1, 1) := by decide +kernel
theorem dX1_holds_13 : decode cX1_holds 13 = .ok (.if_icmp .ne 9, 3) := by decide +kernel
theorem dX1_holds_16 : decode cX1_holds 16 = .ok (.iconst 2, 1) := by decide +kernel
theorem dX1_holds_17 : decode cX1_holds 17 = .ok (.iload_n 3, 1) := by decide +kernel
theorem dX1_holds_18 : decode cX1_holds 18 = .ok (.imul, 1) := by decide +kernel
theorem dX1_holds_19 : decode cX1_holds 19 = .ok (.goto 8, 3) := by decide +kernel
theorem dX1_holds_22 : decode cX1_holds 22 = .ok (.iconst 2, 1) := by decide +kernel
theorem dX1_holds_23 : decode cX1_holds 23 = .ok (.iload_n 3, 1) := by decide +kernel
theorem dX1_holds_24 : decode cX1_holds 24 = .ok (.imul, 1) := by decide +kernel
theorem dX1_holds_25 : decode cX1_holds 25 = .ok (.iconst 1, 1) := by decide +kernel
theorem dX1_holds_26 : decode cX1_holds 26 = .ok (.iadd, 1) := by decide +kernel
theorem dX1_holds_27 : decode cX1_holds 27 = .ok (.istore 4, 2) := by decide +kernel
theorem dX1_holds_29 : decode cX1_holds 29 = .ok (.aload_n 0, 1) := by decide +kernel
theorem dX1_holds_30 : decode cX1_holds 30 = .ok (.getfield 7, 3) := by decide +kernel
theorem dX1_holds_33 : decode cX1_holds 33 = .ok (.iload_n 1, 1) := by decide +kernel
theorem dX1_holds_34 : decode cX1_holds 34 = .ok (.iaload, 1) := by decide +kernel
theorem dX1_holds_35 : decode cX1_holds 35 = .ok (.iload 4, 2) := by decide +kernel
theorem dX1_holds_37 : decode cX1_holds 37 = .ok (.ishr, 1) := by decide +kernel
theorem dX1_holds_38 : decode cX1_holds 38 = .ok (.iconst 1, 1) := by decide +kernel
theorem dX1_holds_39 : decode cX1_holds 39 = .ok (.iand, 1) := by decide +kernel
theorem dX1_holds_40 : decode cX1_holds 40 = .ok (.iconst 1, 1) := by decide +kernel
theorem dX1_holds_41 : decode cX1_holds 41 = .ok (.if_icmp .ne 5, 3) := by decide +kernel
theorem dX1_holds_44 : decode cX1_holds 44 = .ok (.iconst 1, 1) := by decide +kernel
theorem dX1_holds_45 : decode cX1_holds 45 = .ok (.ireturn, 1) := by decide +kernel
theorem dX1_holds_46 : decode cX1_holds 46 = .ok (.iinc 3 1, 3) := by decide +kernel
theorem dX1_holds_49 : decode cX1_holds 49 = .ok (.goto (-47), 3) := by decide +kernel
theorem dX1_holds_52 : decode cX1_holds 52 = .ok (.iconst 0, 1) := by decide +kernel
theorem dX1_holds_53 : decode cX1_holds 53 = .ok (.ireturn, 1) := by decide +kernel
abbrev cX1_model : ByteArray := prog_3_method_15_code
def yX1_model : MethodName := ⟨RX1, "model", "(I)I"⟩
theorem dX1_model_0 : decode cX1_model 0 = .ok (.aload_n 0, 1) := by decide +kernel
theorem dX1_model_1 : decode cX1_model 1 = .ok (.iload_n 1, 1) := by decide +kernel
theorem dX1_model_2 : decode cX1_model 2 = .ok (.invokevirtual 42, 3) := by decide +kernel
theorem dX1_model_5 : decode cX1_model 5 = .ok (.ifCond .eq 7, 3) := by decide +kernel
theorem dX1_model_8 : decode cX1_model 8 = .ok (.iconst (-1), 1) := by decide +kernel
theorem dX1_model_9 : decode cX1_model 9 = .ok (.goto 8, 3) := by decide +kernel
theorem dX1_model_12 : decode cX1_model 12 = .ok (.aload_n 0, 1) := by decide +kernel
theorem dX1_model_13 : decode cX1_model 13 = .ok (.iload_n 1, 1) := by decide +kernel
theorem dX1_model_14 : decode cX1_model 14 = .ok (.invokevirtual 45, 3) := by decide +kernel
theorem dX1_model_17 : decode cX1_model 17 = .ok (.ireturn, 1) := by decide +kernel
abbrev cX1_kernels : ByteArray := prog_3_method_20_code
def yX1_kernels : MethodName := ⟨RX1, "kernels", "()I"⟩
theorem dX1_kernels_0 : decode cX1_kernels 0 = .ok (.aload_n 0, 1) := by decide +kernel
theorem dX1_kernels_1 : decode cX1_kernels 1 = .ok (.iconst 1, 1) := by decide +kernel
theorem dX1_kernels_2 : decode cX1_kernels 2 = .ok (.iconst (-1), 1) := by decide +kernel
theorem dX1_kernels_3 : decode cX1_kernels 3 = .ok (.invokevirtual 57, 3) := by decide +kernel
theorem dX1_kernels_6 : decode cX1_kernels 6 = .ok (.ireturn, 1) := by decide +kernel
abbrev cX1_listed : ByteArray := prog_3_method_19_code
def yX1_listed : MethodName := ⟨RX1, "listed", "(ZI)I"⟩
theorem dX1_listed_0 : decode cX1_listed 0 = .ok (.aload_n 0, 1) := by decide +kernel
theorem dX1_listed_1 : decode cX1_listed 1 = .ok (.invokevirtual 48, 3) := by decide +kernel
theorem dX1_listed_4 : decode cX1_listed 4 = .ok (.iconst 0, 1) := by decide +kernel
theorem dX1_listed_5 : decode cX1_listed 5 = .ok (.istore_n 3, 1) := by decide +kernel
theorem dX1_listed_6 : decode cX1_listed 6 = .ok (.iconst 0, 1) := by decide +kernel
theorem dX1_listed_7 : decode cX1_listed 7 = .ok (.istore 4, 2) := by decide +kernel
theorem dX1_listed_9 : decode cX1_listed 9 = .ok (.iload 4, 2) := by decide +kernel
theorem dX1_listed_11 : decode cX1_listed 11 = .ok (.iconst 1, 1) := by decide +kernel
theorem dX1_listed_12 : decode cX1_listed 12 = .ok (.aload_n 0, 1) := by decide +kernel
theorem dX1_listed_13 : decode cX1_listed 13 = .ok (.getfield 28, 3) := by decide +kernel
theorem dX1_listed_16 : decode cX1_listed 16 = .ok (.ishl, 1) := by decide +kernel
theorem dX1_listed_17 : decode cX1_listed 17 = .ok (.if_icmp .ge 53, 3) := by decide +kernel
theorem dX1_listed_20 : decode cX1_listed 20 = .ok (.iload 4, 2) := by decide +kernel
theorem dX1_listed_22 : decode cX1_listed 22 = .ok (.sipush 512, 3) := by decide +kernel
theorem dX1_listed_25 : decode cX1_listed 25 = .ok (.if_icmp .ge 45, 3) := by decide +kernel
theorem dX1_listed_28 : decode cX1_listed 28 = .ok (.iload_n 1, 1) := by decide +kernel
theorem dX1_listed_29 : decode cX1_listed 29 = .ok (.ifCond .eq 15, 3) := by decide +kernel
theorem dX1_listed_32 : decode cX1_listed 32 = .ok (.aload_n 0, 1) := by decide +kernel
theorem dX1_listed_33 : decode cX1_listed 33 = .ok (.iload 4, 2) := by decide +kernel
theorem dX1_listed_35 : decode cX1_listed 35 = .ok (.invokevirtual 51, 3) := by decide +kernel
theorem dX1_listed_38 : decode cX1_listed 38 = .ok (.ifCond .eq 26, 3) := by decide +kernel
theorem dX1_listed_41 : decode cX1_listed 41 = .ok (.goto 12, 3) := by decide +kernel
theorem dX1_listed_44 : decode cX1_listed 44 = .ok (.aload_n 0, 1) := by decide +kernel
theorem dX1_listed_45 : decode cX1_listed 45 = .ok (.iload 4, 2) := by decide +kernel
theorem dX1_listed_47 : decode cX1_listed 47 = .ok (.invokevirtual 54, 3) := by decide +kernel
theorem dX1_listed_50 : decode cX1_listed 50 = .ok (.ifCond .eq 14, 3) := by decide +kernel
theorem dX1_listed_53 : decode cX1_listed 53 = .ok (.iload_n 3, 1) := by decide +kernel
theorem dX1_listed_54 : decode cX1_listed 54 = .ok (.iload_n 2, 1) := by decide +kernel
theorem dX1_listed_55 : decode cX1_listed 55 = .ok (.if_icmp .ne 6, 3) := by decide +kernel
theorem dX1_listed_58 : decode cX1_listed 58 = .ok (.iload 4, 2) := by decide +kernel
theorem dX1_listed_60 : decode cX1_listed 60 = .ok (.ireturn, 1) := by decide +kernel
theorem dX1_listed_61 : decode cX1_listed 61 = .ok (.iinc 3 1, 3) := by decide +kernel
theorem dX1_listed_64 : decode cX1_listed 64 = .ok (.iinc 4 1, 3) := by decide +kernel
theorem dX1_listed_67 : decode cX1_listed 67 = .ok (.goto (-58), 3) := by decide +kernel
theorem dX1_listed_70 : decode cX1_listed 70 = .ok (.iload_n 2, 1) := by decide +kernel
theorem dX1_listed_71 : decode cX1_listed 71 = .ok (.iconst (-1), 1) := by decide +kernel
theorem dX1_listed_72 : decode cX1_listed 72 = .ok (.if_icmp .ne 7, 3) := by decide +kernel
theorem dX1_listed_75 : decode cX1_listed 75 = .ok (.iload_n 3, 1) := by decide +kernel
theorem dX1_listed_76 : decode cX1_listed 76 = .ok (.goto 4, 3) := by decide +kernel
theorem dX1_listed_79 : decode cX1_listed 79 = .ok (.iconst (-1), 1) := by decide +kernel
theorem dX1_listed_80 : decode cX1_listed 80 = .ok (.ireturn, 1) := by decide +kernel
abbrev cX1_work : ByteArray := prog_3_method_16_code
def yX1_work : MethodName := ⟨RX1, "work", "()V"⟩
theorem dX1_work_0 : decode cX1_work 0 = .ok (.iconst 0, 1) := by decide +kernel
theorem dX1_work_1 : decode cX1_work 1 = .ok (.istore_n 1, 1) := by decide +kernel
theorem dX1_work_2 : decode cX1_work 2 = .ok (.iload_n 1, 1) := by decide +kernel
theorem dX1_work_3 : decode cX1_work 3 = .ok (.iconst 1, 1) := by decide +kernel
theorem dX1_work_4 : decode cX1_work 4 = .ok (.aload_n 0, 1) := by decide +kernel
theorem dX1_work_5 : decode cX1_work 5 = .ok (.getfield 28, 3) := by decide +kernel
theorem dX1_work_8 : decode cX1_work 8 = .ok (.ishl, 1) := by decide +kernel
theorem dX1_work_9 : decode cX1_work 9 = .ok (.if_icmp .ge 35, 3) := by decide +kernel
theorem dX1_work_12 : decode cX1_work 12 = .ok (.iload_n 1, 1) := by decide +kernel
theorem dX1_work_13 : decode cX1_work 13 = .ok (.sipush 512, 3) := by decide +kernel
theorem dX1_work_16 : decode cX1_work 16 = .ok (.if_icmp .ge 28, 3) := by decide +kernel
theorem dX1_work_19 : decode cX1_work 19 = .ok (.aload_n 0, 1) := by decide +kernel
theorem dX1_work_20 : decode cX1_work 20 = .ok (.getfield 16, 3) := by decide +kernel
theorem dX1_work_23 : decode cX1_work 23 = .ok (.iload_n 1, 1) := by decide +kernel
theorem dX1_work_24 : decode cX1_work 24 = .ok (.aload_n 0, 1) := by decide +kernel
theorem dX1_work_25 : decode cX1_work 25 = .ok (.iload_n 1, 1) := by decide +kernel
theorem dX1_work_26 : decode cX1_work 26 = .ok (.invokevirtual 45, 3) := by decide +kernel
theorem dX1_work_29 : decode cX1_work 29 = .ok (.ifCond .lt 7, 3) := by decide +kernel
theorem dX1_work_32 : decode cX1_work 32 = .ok (.iconst 1, 1) := by decide +kernel
theorem dX1_work_33 : decode cX1_work 33 = .ok (.goto 4, 3) := by decide +kernel
theorem dX1_work_36 : decode cX1_work 36 = .ok (.iconst 0, 1) := by decide +kernel
theorem dX1_work_37 : decode cX1_work 37 = .ok (.bastore, 1) := by decide +kernel
theorem dX1_work_38 : decode cX1_work 38 = .ok (.iinc 1 1, 3) := by decide +kernel
theorem dX1_work_41 : decode cX1_work 41 = .ok (.goto (-39), 3) := by decide +kernel
theorem dX1_work_44 : decode cX1_work 44 = .ok (.return_, 1) := by decide +kernel
abbrev cX1_isKernel : ByteArray := prog_3_method_17_code
def yX1_isKernel : MethodName := ⟨RX1, "isKernel", "(I)Z"⟩
theorem dX1_isKernel_0 : decode cX1_isKernel 0 = .ok (.aload_n 0, 1) := by decide +kernel
theorem dX1_isKernel_1 : decode cX1_isKernel 1 = .ok (.getfield 16, 3) := by decide +kernel
theorem dX1_isKernel_4 : decode cX1_isKernel 4 = .ok (.iload_n 1, 1) := by decide +kernel
theorem dX1_isKernel_5 : decode cX1_isKernel 5 = .ok (.baload, 1) := by decide +kernel
theorem dX1_isKernel_6 : decode cX1_isKernel 6 = .ok (.ifCond .eq 5, 3) := by decide +kernel
theorem dX1_isKernel_9 : decode cX1_isKernel 9 = .ok (.iconst 0, 1) := by decide +kernel
theorem dX1_isKernel_10 : decode cX1_isKernel 10 = .ok (.ireturn, 1) := by decide +kernel
theorem dX1_isKernel_11 : decode cX1_isKernel 11 = .ok (.iconst 0, 1) := by decide +kernel
theorem dX1_isKernel_12 : decode cX1_isKernel 12 = .ok (.istore_n 2, 1) := by decide +kernel
theorem dX1_isKernel_13 : decode cX1_isKernel 13 = .ok (.iload_n 2, 1) := by decide +kernel
theorem dX1_isKernel_14 : decode cX1_isKernel 14 = .ok (.aload_n 0, 1) := by decide +kernel
theorem dX1_isKernel_15 : decode cX1_isKernel 15 = .ok (.getfield 28, 3) := by decide +kernel
theorem dX1_isKernel_18 : decode cX1_isKernel 18 = .ok (.if_icmp .ge 35, 3) := by decide +kernel
theorem dX1_isKernel_21 : decode cX1_isKernel 21 = .ok (.iload_n 1, 1) := by decide +kernel
theorem dX1_isKernel_22 : decode cX1_isKernel 22 = .ok (.iload_n 2, 1) := by decide +kernel
theorem dX1_isKernel_23 : decode cX1_isKernel 23 = .ok (.ishr, 1) := by decide +kernel
theorem dX1_isKernel_24 : decode cX1_isKernel 24 = .ok (.iconst 1, 1) := by decide +kernel
theorem dX1_isKernel_25 : decode cX1_isKernel 25 = .ok (.iand, 1) := by decide +kernel
theorem dX1_isKernel_26 : decode cX1_isKernel 26 = .ok (.iconst 1, 1) := by decide +kernel
theorem dX1_isKernel_27 : decode cX1_isKernel 27 = .ok (.if_icmp .ne 20, 3) := by decide +kernel
theorem dX1_isKernel_30 : decode cX1_isKernel 30 = .ok (.aload_n 0, 1) := by decide +kernel
theorem dX1_isKernel_31 : decode cX1_isKernel 31 = .ok (.getfield 16, 3) := by decide +kernel
theorem dX1_isKernel_34 : decode cX1_isKernel 34 = .ok (.iload_n 1, 1) := by decide +kernel
theorem dX1_isKernel_35 : decode cX1_isKernel 35 = .ok (.iconst 1, 1) := by decide +kernel
theorem dX1_isKernel_36 : decode cX1_isKernel 36 = .ok (.iload_n 2, 1) := by decide +kernel
theorem dX1_isKernel_37 : decode cX1_isKernel 37 = .ok (.ishl, 1) := by decide +kernel
theorem dX1_isKernel_38 : decode cX1_isKernel 38 = .ok (.iconst (-1), 1) := by decide +kernel
theorem dX1_isKernel_39 : decode cX1_isKernel 39 = .ok (.ixor, 1) := by decide +kernel
theorem dX1_isKernel_40 : decode cX1_isKernel 40 = .ok (.iand, 1) := by decide +kernel
theorem dX1_isKernel_41 : decode cX1_isKernel 41 = .ok (.baload, 1) := by decide +kernel
theorem dX1_isKernel_42 : decode cX1_isKernel 42 = .ok (.ifCond .ne 5, 3) := by decide +kernel
theorem dX1_isKernel_45 : decode cX1_isKernel 45 = .ok (.iconst 0, 1) := by decide +kernel
theorem dX1_isKernel_46 : decode cX1_isKernel 46 = .ok (.ireturn, 1) := by decide +kernel
theorem dX1_isKernel_47 : decode cX1_isKernel 47 = .ok (.iinc 2 1, 3) := by decide +kernel
theorem dX1_isKernel_50 : decode cX1_isKernel 50 = .ok (.goto (-37), 3) := by decide +kernel
theorem dX1_isKernel_53 : decode cX1_isKernel 53 = .ok (.iconst 1, 1) := by decide +kernel
theorem dX1_isKernel_54 : decode cX1_isKernel 54 = .ok (.ireturn, 1) := by decide +kernel
abbrev cX1_isCorrection : ByteArray := prog_3_method_18_code
def yX1_isCorrection : MethodName := ⟨RX1, "isCorrection", "(I)Z"⟩
theorem dX1_isCorrection_0 : decode cX1_isCorrection 0 = .ok (.iconst 1, 1) := by decide +kernel
theorem dX1_isCorrection_1 : decode cX1_isCorrection 1 = .ok (.aload_n 0, 1) := by decide +kernel
theorem dX1_isCorrection_2 : decode cX1_isCorrection 2 = .ok (.getfield 28, 3) := by decide +kernel
theorem dX1_isCorrection_5 : decode cX1_isCorrection 5 = .ok (.ishl, 1) := by decide +kernel
theorem dX1_isCorrection_6 : decode cX1_isCorrection 6 = .ok (.iconst 1, 1) := by decide +kernel
theorem dX1_isCorrection_7 : decode cX1_isCorrection 7 = .ok (.isub, 1) := by decide +kernel
theorem dX1_isCorrection_8 : decode cX1_isCorrection 8 = .ok (.iload_n 1, 1) := by decide +kernel
theorem dX1_isCorrection_9 : decode cX1_isCorrection 9 = .ok (.iconst (-1), 1) := by decide +kernel
theorem dX1_isCorrection_10 : decode cX1_isCorrection 10 = .ok (.ixor, 1) := by decide +kernel
theorem dX1_isCorrection_11 : decode cX1_isCorrection 11 = .ok (.iand, 1) := by decide +kernel
theorem dX1_isCorrection_12 : decode cX1_isCorrection 12 = .ok (.istore_n 2, 1) := by decide +kernel
theorem dX1_isCorrection_13 : decode cX1_isCorrection 13 = .ok (.aload_n 0, 1) := by decide +kernel
theorem dX1_isCorrection_14 : decode cX1_isCorrection 14 = .ok (.getfield 16, 3) := by decide +kernel
theorem dX1_isCorrection_17 : decode cX1_isCorrection 17 = .ok (.iload_n 2, 1) := by decide +kernel
theorem dX1_isCorrection_18 : decode cX1_isCorrection 18 = .ok (.baload, 1) := by decide +kernel
theorem dX1_isCorrection_19 : decode cX1_isCorrection 19 = .ok (.ifCond .ne 5, 3) := by decide +kernel
theorem dX1_isCorrection_22 : decode cX1_isCorrection 22 = .ok (.iconst 0, 1) := by decide +kernel
theorem dX1_isCorrection_23 : decode cX1_isCorrection 23 = .ok (.ireturn, 1) := by decide +kernel
theorem dX1_isCorrection_24 : decode cX1_isCorrection 24 = .ok (.iconst 0, 1) := by decide +kernel
theorem dX1_isCorrection_25 : decode cX1_isCorrection 25 = .ok (.istore_n 3, 1) := by decide +kernel
theorem dX1_isCorrection_26 : decode cX1_isCorrection 26 = .ok (.iload_n 3, 1) := by decide +kernel
theorem dX1_isCorrection_27 : decode cX1_isCorrection 27 = .ok (.aload_n 0, 1) := by decide +kernel
theorem dX1_isCorrection_28 : decode cX1_isCorrection 28 = .ok (.getfield 28, 3) := by decide +kernel
theorem dX1_isCorrection_31 : decode cX1_isCorrection 31 = .ok (.if_icmp .ge 33, 3) := by decide +kernel
theorem dX1_isCorrection_34 : decode cX1_isCorrection 34 = .ok (.iload_n 1, 1) := by decide +kernel
theorem dX1_isCorrection_35 : decode cX1_isCorrection 35 = .ok (.iload_n 3, 1) := by decide +kernel
theorem dX1_isCorrection_36 : decode cX1_isCorrection 36 = .ok (.ishr, 1) := by decide +kernel
theorem dX1_isCorrection_37 : decode cX1_isCorrection 37 = .ok (.iconst 1, 1) := by decide +kernel
theorem dX1_isCorrection_38 : decode cX1_isCorrection 38 = .ok (.iand, 1) := by decide +kernel
theorem dX1_isCorrection_39 : decode cX1_isCorrection 39 = .ok (.iconst 1, 1) := by decide +kernel
theorem dX1_isCorrection_40 : decode cX1_isCorrection 40 = .ok (.if_icmp .ne 18, 3) := by decide +kernel
theorem dX1_isCorrection_43 : decode cX1_isCorrection 43 = .ok (.aload_n 0, 1) := by decide +kernel
theorem dX1_isCorrection_44 : decode cX1_isCorrection 44 = .ok (.getfield 16, 3) := by decide +kernel
theorem dX1_isCorrection_47 : decode cX1_isCorrection 47 = .ok (.iload_n 2, 1) := by decide +kernel
theorem dX1_isCorrection_48 : decode cX1_isCorrection 48 = .ok (.iconst 1, 1) := by decide +kernel
theorem dX1_isCorrection_49 : decode cX1_isCorrection 49 = .ok (.iload_n 3, 1) := by decide +kernel
theorem dX1_isCorrection_50 : decode cX1_isCorrection 50 = .ok (.ishl, 1) := by decide +kernel
theorem dX1_isCorrection_51 : decode cX1_isCorrection 51 = .ok (.ior, 1) := by decide +kernel
theorem dX1_isCorrection_52 : decode cX1_isCorrection 52 = .ok (.baload, 1) := by decide +kernel
theorem dX1_isCorrection_53 : decode cX1_isCorrection 53 = .ok (.ifCond .eq 5, 3) := by decide +kernel
theorem dX1_isCorrection_56 : decode cX1_isCorrection 56 = .ok (.iconst 0, 1) := by decide +kernel
theorem dX1_isCorrection_57 : decode cX1_isCorrection 57 = .ok (.ireturn, 1) := by decide +kernel
theorem dX1_isCorrection_58 : decode cX1_isCorrection 58 = .ok (.iinc 3 1, 3) := by decide +kernel
theorem dX1_isCorrection_61 : decode cX1_isCorrection 61 = .ok (.goto (-35), 3) := by decide +kernel
theorem dX1_isCorrection_64 : decode cX1_isCorrection 64 = .ok (.iconst 1, 1) := by decide +kernel
theorem dX1_isCorrection_65 : decode cX1_isCorrection 65 = .ok (.ireturn, 1) := by decide +kernel
abbrev cX1_kernel : ByteArray := prog_3_method_21_code
def yX1_kernel : MethodName := ⟨RX1, "kernel", "(I)I"⟩
theorem dX1_kernel_0 : decode cX1_kernel 0 = .ok (.iload_n 1, 1) := by decide +kernel
theorem dX1_kernel_1 : decode cX1_kernel 1 = .ok (.ifCond .ge 7, 3) := by decide +kernel
theorem dX1_kernel_4 : decode cX1_kernel 4 = .ok (.iconst (-1), 1) := by decide +kernel
theorem dX1_kernel_5 : decode cX1_kernel 5 = .ok (.goto 9, 3) := by decide +kernel
theorem dX1_kernel_8 : decode cX1_kernel 8 = .ok (.aload_n 0, 1) := by decide +kernel
theorem dX1_kernel_9 : decode cX1_kernel 9 = .ok (.iconst 1, 1) := by decide +kernel
theorem dX1_kernel_10 : decode cX1_kernel 10 = .ok (.iload_n 1, 1) := by decide +kernel
theorem dX1_kernel_11 : decode cX1_kernel 11 = .ok (.invokevirtual 57, 3) := by decide +kernel
theorem dX1_kernel_14 : decode cX1_kernel 14 = .ok (.ireturn, 1) := by decide +kernel
abbrev cX1_corrections : ByteArray := prog_3_method_22_code
def yX1_corrections : MethodName := ⟨RX1, "corrections", "()I"⟩
theorem dX1_corrections_0 : decode cX1_corrections 0 = .ok (.aload_n 0, 1) := by decide +kernel
theorem dX1_corrections_1 : decode cX1_corrections 1 = .ok (.iconst 0, 1) := by decide +kernel
theorem dX1_corrections_2 : decode cX1_corrections 2 = .ok (.iconst (-1), 1) := by decide +kernel
theorem dX1_corrections_3 : decode cX1_corrections 3 = .ok (.invokevirtual 57, 3) := by decide +kernel
theorem dX1_corrections_6 : decode cX1_corrections 6 = .ok (.ireturn, 1) := by decide +kernel
abbrev cX1_correction : ByteArray := prog_3_method_23_code
def yX1_correction : MethodName := ⟨RX1, "correction", "(I)I"⟩
theorem dX1_correction_0 : decode cX1_correction 0 = .ok (.iload_n 1, 1) := by decide +kernel
theorem dX1_correction_1 : decode cX1_correction 1 = .ok (.ifCond .ge 7, 3) := by decide +kernel
theorem dX1_correction_4 : decode cX1_correction 4 = .ok (.iconst (-1), 1) := by decide +kernel
theorem dX1_correction_5 : decode cX1_correction 5 = .ok (.goto 9, 3) := by decide +kernel
theorem dX1_correction_8 : decode cX1_correction 8 = .ok (.aload_n 0, 1) := by decide +kernel
theorem dX1_correction_9 : decode cX1_correction 9 = .ok (.iconst 0, 1) := by decide +kernel
theorem dX1_correction_10 : decode cX1_correction 10 = .ok (.iload_n 1, 1) := by decide +kernel
theorem dX1_correction_11 : decode cX1_correction 11 = .ok (.invokevirtual 57, 3) := by decide +kernel
theorem dX1_correction_14 : decode cX1_correction 14 = .ok (.ireturn, 1) := by decide +kernel
abbrev cX1_cheapest : ByteArray := prog_3_method_26_code
def yX1_cheapest : MethodName := ⟨RX1, "cheapest", "()I"⟩
theorem dX1_cheapest_0 : decode cX1_cheapest 0 = .ok (.aload_n 0, 1) := by decide +kernel
theorem dX1_cheapest_1 : decode cX1_cheapest 1 = .ok (.invokevirtual 64, 3) := by decide +kernel
theorem dX1_cheapest_4 : decode cX1_cheapest 4 = .ok (.istore_n 1, 1) := by decide +kernel
theorem dX1_cheapest_5 : decode cX1_cheapest 5 = .ok (.aload_n 0, 1) := by decide +kernel
theorem dX1_cheapest_6 : decode cX1_cheapest 6 = .ok (.iload_n 1, 1) := by decide +kernel
theorem dX1_cheapest_7 : decode cX1_cheapest 7 = .ok (.invokevirtual 61, 3) := by decide +kernel
theorem dX1_cheapest_10 : decode cX1_cheapest 10 = .ok (.ireturn, 1) := by decide +kernel
abbrev cX1_best : ByteArray := prog_3_method_25_code
def yX1_best : MethodName := ⟨RX1, "best", "()I"⟩
theorem dX1_best_0 : decode cX1_best 0 = .ok (.aload_n 0, 1) := by decide +kernel
theorem dX1_best_1 : decode cX1_best 1 = .ok (.invokevirtual 48, 3) := by decide +kernel
theorem dX1_best_4 : decode cX1_best 4 = .ok (.iconst (-1), 1) := by decide +kernel
theorem dX1_best_5 : decode cX1_best 5 = .ok (.istore_n 1, 1) := by decide +kernel
theorem dX1_best_6 : decode cX1_best 6 = .ok (.iconst 0, 1) := by decide +kernel
theorem dX1_best_7 : decode cX1_best 7 = .ok (.istore_n 2, 1) := by decide +kernel
theorem dX1_best_8 : decode cX1_best 8 = .ok (.iload_n 2, 1) := by decide +kernel
theorem dX1_best_9 : decode cX1_best 9 = .ok (.iconst 1, 1) := by decide +kernel
theorem dX1_best_10 : decode cX1_best 10 = .ok (.aload_n 0, 1) := by decide +kernel
theorem dX1_best_11 : decode cX1_best 11 = .ok (.getfield 28, 3) := by decide +kernel
theorem dX1_best_14 : decode cX1_best 14 = .ok (.ishl, 1) := by decide +kernel
theorem dX1_best_15 : decode cX1_best 15 = .ok (.if_icmp .ge 43, 3) := by decide +kernel
theorem dX1_best_18 : decode cX1_best 18 = .ok (.iload_n 2, 1) := by decide +kernel
theorem dX1_best_19 : decode cX1_best 19 = .ok (.sipush 512, 3) := by decide +kernel
theorem dX1_best_22 : decode cX1_best 22 = .ok (.if_icmp .ge 36, 3) := by decide +kernel
theorem dX1_best_25 : decode cX1_best 25 = .ok (.aload_n 0, 1) := by decide +kernel
theorem dX1_best_26 : decode cX1_best 26 = .ok (.iload_n 2, 1) := by decide +kernel
theorem dX1_best_27 : decode cX1_best 27 = .ok (.invokevirtual 54, 3) := by decide +kernel
theorem dX1_best_30 : decode cX1_best 30 = .ok (.ifCond .eq 22, 3) := by decide +kernel
theorem dX1_best_33 : decode cX1_best 33 = .ok (.iload_n 1, 1) := by decide +kernel
theorem dX1_best_34 : decode cX1_best 34 = .ok (.ifCond .lt 16, 3) := by decide +kernel
theorem dX1_best_37 : decode cX1_best 37 = .ok (.aload_n 0, 1) := by decide +kernel
theorem dX1_best_38 : decode cX1_best 38 = .ok (.iload_n 2, 1) := by decide +kernel
theorem dX1_best_39 : decode cX1_best 39 = .ok (.invokevirtual 61, 3) := by decide +kernel
theorem dX1_best_42 : decode cX1_best 42 = .ok (.aload_n 0, 1) := by decide +kernel
theorem dX1_best_43 : decode cX1_best 43 = .ok (.iload_n 1, 1) := by decide +kernel
theorem dX1_best_44 : decode cX1_best 44 = .ok (.invokevirtual 61, 3) := by decide +kernel
theorem dX1_best_47 : decode cX1_best 47 = .ok (.if_icmp .ge 5, 3) := by decide +kernel
theorem dX1_best_50 : decode cX1_best 50 = .ok (.iload_n 2, 1) := by decide +kernel
theorem dX1_best_51 : decode cX1_best 51 = .ok (.istore_n 1, 1) := by decide +kernel
theorem dX1_best_52 : decode cX1_best 52 = .ok (.iinc 2 1, 3) := by decide +kernel
theorem dX1_best_55 : decode cX1_best 55 = .ok (.goto (-47), 3) := by decide +kernel
theorem dX1_best_58 : decode cX1_best 58 = .ok (.iload_n 1, 1) := by decide +kernel
theorem dX1_best_59 : decode cX1_best 59 = .ok (.ireturn, 1) := by decide +kernel
abbrev cX1_worth : ByteArray := prog_3_method_24_code
def yX1_worth : MethodName := ⟨RX1, "worth", "(I)I"⟩
theorem dX1_worth_0 : decode cX1_worth 0 = .ok (.iconst 0, 1) := by decide +kernel
theorem dX1_worth_1 : decode cX1_worth 1 = .ok (.istore_n 2, 1) := by decide +kernel
theorem dX1_worth_2 : decode cX1_worth 2 = .ok (.iconst 0, 1) := by decide +kernel
theorem dX1_worth_3 : decode cX1_worth 3 = .ok (.istore_n 3, 1) := by decide +kernel
theorem dX1_worth_4 : decode cX1_worth 4 = .ok (.iload_n 3, 1) := by decide +kernel
theorem dX1_worth_5 : decode cX1_worth 5 = .ok (.aload_n 0, 1) := by decide +kernel
theorem dX1_worth_6 : decode cX1_worth 6 = .ok (.getfield 28, 3) := by decide +kernel
theorem dX1_worth_9 : decode cX1_worth 9 = .ok (.if_icmp .ge 33, 3) := by decide +kernel
theorem dX1_worth_12 : decode cX1_worth 12 = .ok (.iload_n 3, 1) := by decide +kernel
theorem dX1_worth_13 : decode cX1_worth 13 = .ok (.bipush 9, 2) := by decide +kernel
theorem dX1_worth_15 : decode cX1_worth 15 = .ok (.if_icmp .ge 27, 3) := by decide +kernel
theorem dX1_worth_18 : decode cX1_worth 18 = .ok (.iload_n 1, 1) := by decide +kernel
theorem dX1_worth_19 : decode cX1_worth 19 = .ok (.iload_n 3, 1) := by decide +kernel
theorem dX1_worth_20 : decode cX1_worth 20 = .ok (.ishr, 1) := by decide +kernel
theorem dX1_worth_21 : decode cX1_worth 21 = .ok (.iconst 1, 1) := by decide +kernel
theorem dX1_worth_22 : decode cX1_worth 22 = .ok (.iand, 1) := by decide +kernel
theorem dX1_worth_23 : decode cX1_worth 23 = .ok (.iconst 1, 1) := by decide +kernel
theorem dX1_worth_24 : decode cX1_worth 24 = .ok (.if_icmp .ne 12, 3) := by decide +kernel
theorem dX1_worth_27 : decode cX1_worth 27 = .ok (.iload_n 2, 1) := by decide +kernel
theorem dX1_worth_28 : decode cX1_worth 28 = .ok (.aload_n 0, 1) := by decide +kernel
theorem dX1_worth_29 : decode cX1_worth 29 = .ok (.getfield 13, 3) := by decide +kernel
theorem dX1_worth_32 : decode cX1_worth 32 = .ok (.iload_n 3, 1) := by decide +kernel
theorem dX1_worth_33 : decode cX1_worth 33 = .ok (.iaload, 1) := by decide +kernel
theorem dX1_worth_34 : decode cX1_worth 34 = .ok (.iadd, 1) := by decide +kernel
theorem dX1_worth_35 : decode cX1_worth 35 = .ok (.istore_n 2, 1) := by decide +kernel
theorem dX1_worth_36 : decode cX1_worth 36 = .ok (.iinc 3 1, 3) := by decide +kernel
theorem dX1_worth_39 : decode cX1_worth 39 = .ok (.goto (-35), 3) := by decide +kernel
theorem dX1_worth_42 : decode cX1_worth 42 = .ok (.iload_n 2, 1) := by decide +kernel
theorem dX1_worth_43 : decode cX1_worth 43 = .ok (.ireturn, 1) := by decide +kernel
abbrev cX1_cheapestSet : ByteArray := prog_3_method_27_code
def yX1_cheapestSet : MethodName := ⟨RX1, "cheapestSet", "()I"⟩
theorem dX1_cheapestSet_0 : decode cX1_cheapestSet 0 = .ok (.aload_n 0, 1) := by decide +kernel
theorem dX1_cheapestSet_1 : decode cX1_cheapestSet 1 = .ok (.invokevirtual 64, 3) := by decide +kernel
theorem dX1_cheapestSet_4 : decode cX1_cheapestSet 4 = .ok (.ireturn, 1) := by decide +kernel
abbrev cX1_smallest : ByteArray := prog_3_method_28_code
def yX1_smallest : MethodName := ⟨RX1, "smallest", "()I"⟩
theorem dX1_smallest_0 : decode cX1_smallest 0 = .ok (.aload_n 0, 1) := by decide +kernel
theorem dX1_smallest_1 : decode cX1_smallest 1 = .ok (.invokevirtual 48, 3) := by decide +kernel
theorem dX1_smallest_4 : decode cX1_smallest 4 = .ok (.iconst 0, 1) := by decide +kernel
theorem dX1_smallest_5 : decode cX1_smallest 5 = .ok (.istore_n 1, 1) := by decide +kernel
theorem dX1_smallest_6 : decode cX1_smallest 6 = .ok (.iconst 0, 1) := by decide +kernel
theorem dX1_smallest_7 : decode cX1_smallest 7 = .ok (.istore_n 2, 1) := by decide +kernel
theorem dX1_smallest_8 : decode cX1_smallest 8 = .ok (.iload_n 2, 1) := by decide +kernel
theorem dX1_smallest_9 : decode cX1_smallest 9 = .ok (.iconst 1, 1) := by decide +kernel
theorem dX1_smallest_10 : decode cX1_smallest 10 = .ok (.aload_n 0, 1) := by decide +kernel
theorem dX1_smallest_11 : decode cX1_smallest 11 = .ok (.getfield 28, 3) := by decide +kernel
theorem dX1_smallest_14 : decode cX1_smallest 14 = .ok (.ishl, 1) := by decide +kernel
theorem dX1_smallest_15 : decode cX1_smallest 15 = .ok (.if_icmp .ge 43, 3) := by decide +kernel
theorem dX1_smallest_18 : decode cX1_smallest 18 = .ok (.iload_n 2, 1) := by decide +kernel
theorem dX1_smallest_19 : decode cX1_smallest 19 = .ok (.sipush 512, 3) := by decide +kernel
theorem dX1_smallest_22 : decode cX1_smallest 22 = .ok (.if_icmp .ge 36, 3) := by decide +kernel
theorem dX1_smallest_25 : decode cX1_smallest 25 = .ok (.aload_n 0, 1) := by decide +kernel
theorem dX1_smallest_26 : decode cX1_smallest 26 = .ok (.iload_n 2, 1) := by decide +kernel
theorem dX1_smallest_27 : decode cX1_smallest 27 = .ok (.invokevirtual 51, 3) := by decide +kernel
theorem dX1_smallest_30 : decode cX1_smallest 30 = .ok (.ifCond .eq 22, 3) := by decide +kernel
theorem dX1_smallest_33 : decode cX1_smallest 33 = .ok (.iload_n 1, 1) := by decide +kernel
theorem dX1_smallest_34 : decode cX1_smallest 34 = .ok (.ifCond .eq 12, 3) := by decide +kernel
theorem dX1_smallest_37 : decode cX1_smallest 37 = .ok (.aload_n 0, 1) := by decide +kernel
theorem dX1_smallest_38 : decode cX1_smallest 38 = .ok (.iload_n 2, 1) := by decide +kernel
theorem dX1_smallest_39 : decode cX1_smallest 39 = .ok (.invokevirtual 24, 3) := by decide +kernel
theorem dX1_smallest_42 : decode cX1_smallest 42 = .ok (.iload_n 1, 1) := by decide +kernel
theorem dX1_smallest_43 : decode cX1_smallest 43 = .ok (.if_icmp .ge 9, 3) := by decide +kernel
theorem dX1_smallest_46 : decode cX1_smallest 46 = .ok (.aload_n 0, 1) := by decide +kernel
theorem dX1_smallest_47 : decode cX1_smallest 47 = .ok (.iload_n 2, 1) := by decide +kernel
theorem dX1_smallest_48 : decode cX1_smallest 48 = .ok (.invokevirtual 24, 3) := by decide +kernel
theorem dX1_smallest_51 : decode cX1_smallest 51 = .ok (.istore_n 1, 1) := by decide +kernel
theorem dX1_smallest_52 : decode cX1_smallest 52 = .ok (.iinc 2 1, 3) := by decide +kernel
theorem dX1_smallest_55 : decode cX1_smallest 55 = .ok (.goto (-47), 3) := by decide +kernel
theorem dX1_smallest_58 : decode cX1_smallest 58 = .ok (.iload_n 1, 1) := by decide +kernel
theorem dX1_smallest_59 : decode cX1_smallest 59 = .ok (.ireturn, 1) := by decide +kernel
abbrev cX1_blame : ByteArray := prog_3_method_29_code
def yX1_blame : MethodName := ⟨RX1, "blame", "(I)I"⟩
theorem dX1_blame_0 : decode cX1_blame 0 = .ok (.aload_n 0, 1) := by decide +kernel
theorem dX1_blame_1 : decode cX1_blame 1 = .ok (.iload_n 1, 1) := by decide +kernel
theorem dX1_blame_2 : decode cX1_blame 2 = .ok (.invokevirtual 31, 3) := by decide +kernel
theorem dX1_blame_5 : decode cX1_blame 5 = .ok (.ifCond .eq 5, 3) := by decide +kernel
theorem dX1_blame_8 : decode cX1_blame 8 = .ok (.iconst (-1), 1) := by decide +kernel
theorem dX1_blame_9 : decode cX1_blame 9 = .ok (.ireturn, 1) := by decide +kernel
theorem dX1_blame_10 : decode cX1_blame 10 = .ok (.aload_n 0, 1) := by decide +kernel
theorem dX1_blame_11 : decode cX1_blame 11 = .ok (.invokevirtual 48, 3) := by decide +kernel
theorem dX1_blame_14 : decode cX1_blame 14 = .ok (.iconst 0, 1) := by decide +kernel
theorem dX1_blame_15 : decode cX1_blame 15 = .ok (.istore_n 2, 1) := by decide +kernel
theorem dX1_blame_16 : decode cX1_blame 16 = .ok (.iconst 0, 1) := by decide +kernel
theorem dX1_blame_17 : decode cX1_blame 17 = .ok (.istore_n 3, 1) := by decide +kernel
theorem dX1_blame_18 : decode cX1_blame 18 = .ok (.iload_n 3, 1) := by decide +kernel
theorem dX1_blame_19 : decode cX1_blame 19 = .ok (.iconst 1, 1) := by decide +kernel
theorem dX1_blame_20 : decode cX1_blame 20 = .ok (.aload_n 0, 1) := by decide +kernel
theorem dX1_blame_21 : decode cX1_blame 21 = .ok (.getfield 28, 3) := by decide +kernel
theorem dX1_blame_24 : decode cX1_blame 24 = .ok (.ishl, 1) := by decide +kernel
theorem dX1_blame_25 : decode cX1_blame 25 = .ok (.if_icmp .ge 36, 3) := by decide +kernel
theorem dX1_blame_28 : decode cX1_blame 28 = .ok (.iload_n 3, 1) := by decide +kernel
theorem dX1_blame_29 : decode cX1_blame 29 = .ok (.sipush 512, 3) := by decide +kernel
theorem dX1_blame_32 : decode cX1_blame 32 = .ok (.if_icmp .ge 29, 3) := by decide +kernel
theorem dX1_blame_35 : decode cX1_blame 35 = .ok (.iload_n 3, 1) := by decide +kernel
theorem dX1_blame_36 : decode cX1_blame 36 = .ok (.iload_n 1, 1) := by decide +kernel
theorem dX1_blame_37 : decode cX1_blame 37 = .ok (.ishr, 1) := by decide +kernel
theorem dX1_blame_38 : decode cX1_blame 38 = .ok (.iconst 1, 1) := by decide +kernel
theorem dX1_blame_39 : decode cX1_blame 39 = .ok (.iand, 1) := by decide +kernel
theorem dX1_blame_40 : decode cX1_blame 40 = .ok (.iconst 1, 1) := by decide +kernel
theorem dX1_blame_41 : decode cX1_blame 41 = .ok (.if_icmp .ne 14, 3) := by decide +kernel
theorem dX1_blame_44 : decode cX1_blame 44 = .ok (.aload_n 0, 1) := by decide +kernel
theorem dX1_blame_45 : decode cX1_blame 45 = .ok (.iload_n 3, 1) := by decide +kernel
theorem dX1_blame_46 : decode cX1_blame 46 = .ok (.invokevirtual 51, 3) := by decide +kernel
theorem dX1_blame_49 : decode cX1_blame 49 = .ok (.ifCond .eq 6, 3) := by decide +kernel
theorem dX1_blame_52 : decode cX1_blame 52 = .ok (.iinc 2 1, 3) := by decide +kernel
theorem dX1_blame_55 : decode cX1_blame 55 = .ok (.iinc 3 1, 3) := by decide +kernel
theorem dX1_blame_58 : decode cX1_blame 58 = .ok (.goto (-40), 3) := by decide +kernel
theorem dX1_blame_61 : decode cX1_blame 61 = .ok (.iload_n 2, 1) := by decide +kernel
theorem dX1_blame_62 : decode cX1_blame 62 = .ok (.ireturn, 1) := by decide +kernel
abbrev cX1_core : ByteArray := prog_3_method_30_code
def yX1_core : MethodName := ⟨RX1, "core", "()I"⟩
theorem dX1_core_0 : decode cX1_core 0 = .ok (.aload_n 0, 1) := by decide +kernel
theorem dX1_core_1 : decode cX1_core 1 = .ok (.invokevirtual 48, 3) := by decide +kernel
theorem dX1_core_4 : decode cX1_core 4 = .ok (.iconst 1, 1) := by decide +kernel
theorem dX1_core_5 : decode cX1_core 5 = .ok (.aload_n 0, 1) := by decide +kernel
theorem dX1_core_6 : decode cX1_core 6 = .ok (.getfield 28, 3) := by decide +kernel
theorem dX1_core_9 : decode cX1_core 9 = .ok (.ishl, 1) := by decide +kernel
theorem dX1_core_10 : decode cX1_core 10 = .ok (.iconst 1, 1) := by decide +kernel
theorem dX1_core_11 : decode cX1_core 11 = .ok (.isub, 1) := by decide +kernel
theorem dX1_core_12 : decode cX1_core 12 = .ok (.istore_n 1, 1) := by decide +kernel
theorem dX1_core_13 : decode cX1_core 13 = .ok (.iconst 0, 1) := by decide +kernel
theorem dX1_core_14 : decode cX1_core 14 = .ok (.istore_n 2, 1) := by decide +kernel
theorem dX1_core_15 : decode cX1_core 15 = .ok (.iload_n 2, 1) := by decide +kernel
theorem dX1_core_16 : decode cX1_core 16 = .ok (.iconst 1, 1) := by decide +kernel
theorem dX1_core_17 : decode cX1_core 17 = .ok (.aload_n 0, 1) := by decide +kernel
theorem dX1_core_18 : decode cX1_core 18 = .ok (.getfield 28, 3) := by decide +kernel
theorem dX1_core_21 : decode cX1_core 21 = .ok (.ishl, 1) := by decide +kernel
theorem dX1_core_22 : decode cX1_core 22 = .ok (.if_icmp .ge 28, 3) := by decide +kernel
theorem dX1_core_25 : decode cX1_core 25 = .ok (.iload_n 2, 1) := by decide +kernel
theorem dX1_core_26 : decode cX1_core 26 = .ok (.sipush 512, 3) := by decide +kernel
theorem dX1_core_29 : decode cX1_core 29 = .ok (.if_icmp .ge 21, 3) := by decide +kernel
theorem dX1_core_32 : decode cX1_core 32 = .ok (.aload_n 0, 1) := by decide +kernel
theorem dX1_core_33 : decode cX1_core 33 = .ok (.iload_n 2, 1) := by decide +kernel
theorem dX1_core_34 : decode cX1_core 34 = .ok (.invokevirtual 51, 3) := by decide +kernel
theorem dX1_core_37 : decode cX1_core 37 = .ok (.ifCond .eq 7, 3) := by decide +kernel
theorem dX1_core_40 : decode cX1_core 40 = .ok (.iload_n 1, 1) := by decide +kernel
theorem dX1_core_41 : decode cX1_core 41 = .ok (.iload_n 2, 1) := by decide +kernel
theorem dX1_core_42 : decode cX1_core 42 = .ok (.iand, 1) := by decide +kernel
theorem dX1_core_43 : decode cX1_core 43 = .ok (.istore_n 1, 1) := by decide +kernel
theorem dX1_core_44 : decode cX1_core 44 = .ok (.iinc 2 1, 3) := by decide +kernel
theorem dX1_core_47 : decode cX1_core 47 = .ok (.goto (-32), 3) := by decide +kernel
theorem dX1_core_50 : decode cX1_core 50 = .ok (.iload_n 1, 1) := by decide +kernel
theorem dX1_core_51 : decode cX1_core 51 = .ok (.ireturn, 1) := by decide +kernel
abbrev cX1_sort : ByteArray := prog_3_method_31_code
def yX1_sort : MethodName := ⟨RX1, "sort", "(I)I"⟩
theorem dX1_sort_0 : decode cX1_sort 0 = .ok (.aload_n 0, 1) := by decide +kernel
theorem dX1_sort_1 : decode cX1_sort 1 = .ok (.iload_n 1, 1) := by decide +kernel
theorem dX1_sort_2 : decode cX1_sort 2 = .ok (.invokevirtual 42, 3) := by decide +kernel
theorem dX1_sort_5 : decode cX1_sort 5 = .ok (.ifCond .eq 5, 3) := by decide +kernel
theorem dX1_sort_8 : decode cX1_sort 8 = .ok (.iconst (-1), 1) := by decide +kernel
theorem dX1_sort_9 : decode cX1_sort 9 = .ok (.ireturn, 1) := by decide +kernel
theorem dX1_sort_10 : decode cX1_sort 10 = .ok (.aload_n 0, 1) := by decide +kernel
theorem dX1_sort_11 : decode cX1_sort 11 = .ok (.invokevirtual 48, 3) := by decide +kernel
theorem dX1_sort_14 : decode cX1_sort 14 = .ok (.aload_n 0, 1) := by decide +kernel
theorem dX1_sort_15 : decode cX1_sort 15 = .ok (.iload_n 1, 1) := by decide +kernel
theorem dX1_sort_16 : decode cX1_sort 16 = .ok (.invokevirtual 51, 3) := by decide +kernel
theorem dX1_sort_19 : decode cX1_sort 19 = .ok (.ifCond .eq 5, 3) := by decide +kernel
theorem dX1_sort_22 : decode cX1_sort 22 = .ok (.iconst 1, 1) := by decide +kernel
theorem dX1_sort_23 : decode cX1_sort 23 = .ok (.ireturn, 1) := by decide +kernel
theorem dX1_sort_24 : decode cX1_sort 24 = .ok (.aload_n 0, 1) := by decide +kernel
theorem dX1_sort_25 : decode cX1_sort 25 = .ok (.iload_n 1, 1) := by decide +kernel
theorem dX1_sort_26 : decode cX1_sort 26 = .ok (.invokevirtual 54, 3) := by decide +kernel
theorem dX1_sort_29 : decode cX1_sort 29 = .ok (.ifCond .eq 7, 3) := by decide +kernel
theorem dX1_sort_32 : decode cX1_sort 32 = .ok (.iconst 2, 1) := by decide +kernel
theorem dX1_sort_33 : decode cX1_sort 33 = .ok (.goto 4, 3) := by decide +kernel
theorem dX1_sort_36 : decode cX1_sort 36 = .ok (.iconst 0, 1) := by decide +kernel
theorem dX1_sort_37 : decode cX1_sort 37 = .ok (.ireturn, 1) := by decide +kernel
abbrev cX1_width : ByteArray := prog_3_method_32_code
def yX1_width : MethodName := ⟨RX1, "width", "(I)I"⟩
theorem dX1_width_0 : decode cX1_width 0 = .ok (.aload_n 0, 1) := by decide +kernel
theorem dX1_width_1 : decode cX1_width 1 = .ok (.iload_n 1, 1) := by decide +kernel
theorem dX1_width_2 : decode cX1_width 2 = .ok (.invokevirtual 31, 3) := by decide +kernel
theorem dX1_width_5 : decode cX1_width 5 = .ok (.ifCond .eq 5, 3) := by decide +kernel
theorem dX1_width_8 : decode cX1_width 8 = .ok (.iconst (-1), 1) := by decide +kernel
theorem dX1_width_9 : decode cX1_width 9 = .ok (.ireturn, 1) := by decide +kernel
theorem dX1_width_10 : decode cX1_width 10 = .ok (.iconst 0, 1) := by decide +kernel
theorem dX1_width_11 : decode cX1_width 11 = .ok (.istore_n 2, 1) := by decide +kernel
theorem dX1_width_12 : decode cX1_width 12 = .ok (.iconst 0, 1) := by decide +kernel
theorem dX1_width_13 : decode cX1_width 13 = .ok (.istore_n 3, 1) := by decide +kernel
theorem dX1_width_14 : decode cX1_width 14 = .ok (.iload_n 3, 1) := by decide +kernel
theorem dX1_width_15 : decode cX1_width 15 = .ok (.bipush 32, 2) := by decide +kernel
theorem dX1_width_17 : decode cX1_width 17 = .ok (.if_icmp .ge 21, 3) := by decide +kernel
theorem dX1_width_20 : decode cX1_width 20 = .ok (.aload_n 0, 1) := by decide +kernel
theorem dX1_width_21 : decode cX1_width 21 = .ok (.iload_n 1, 1) := by decide +kernel
theorem dX1_width_22 : decode cX1_width 22 = .ok (.iload_n 3, 1) := by decide +kernel
theorem dX1_width_23 : decode cX1_width 23 = .ok (.invokevirtual 35, 3) := by decide +kernel
theorem dX1_width_26 : decode cX1_width 26 = .ok (.ifCond .eq 6, 3) := by decide +kernel
theorem dX1_width_29 : decode cX1_width 29 = .ok (.iinc 2 1, 3) := by decide +kernel
theorem dX1_width_32 : decode cX1_width 32 = .ok (.iinc 3 1, 3) := by decide +kernel
theorem dX1_width_35 : decode cX1_width 35 = .ok (.goto (-21), 3) := by decide +kernel
theorem dX1_width_38 : decode cX1_width 38 = .ok (.iload_n 2, 1) := by decide +kernel
theorem dX1_width_39 : decode cX1_width 39 = .ok (.ireturn, 1) := by decide +kernel
theorem q27 : (Jvm.Cond.initialized "ConflictSetsModel") ∈ lw_all := lw_g (lw_at lw_m1 2 rfl) rfl
theorem q207 : (Jvm.Cond.instantiable "ConflictSetsModel" (5 : Nat)) ∈ lw_all := lw_g (lw_at lw_m1 182 rfl) rfl
theorem q209 : (Jvm.Cond.instanceMethod ({ cls := "ConflictSetsModel", name := "<init>", desc := "()V" } : Jvm.MethodName)) ∈ lw_all := lw_g (lw_at lw_m1 184 rfl) rfl
theorem q210 : (Jvm.Cond.code ({ cls := "ConflictSetsModel", name := "<init>", desc := "()V" } : Jvm.MethodName) prog_3_method_1_code (1 : Nat) (Option.none : Option Jvm.ClassFile.FieldType)) ∈ lw_all := lw_g (lw_at lw_m1 185 rfl) rfl
theorem q211 : (Jvm.Cond.methodLink "ConflictSetsModel" (1 : Nat) ({ cls := "java/lang/Object", name := "<init>", desc := "()V" } : Jvm.MethodName)) ∈ lw_all := lw_g (lw_at lw_m1 186 rfl) rfl
theorem q212 : (Jvm.Cond.fieldLink "ConflictSetsModel" (20 : Nat) "ConflictSetsModel" "draft" "I") ∈ lw_all := lw_g (lw_at lw_m1 187 rfl) rfl
theorem q213 : (Jvm.Cond.fieldLink "ConflictSetsModel" (28 : Nat) "ConflictSetsModel" "count" "I") ∈ lw_all := lw_g (lw_at lw_m1 188 rfl) rfl
theorem q214 : (Jvm.Cond.fieldLink "ConflictSetsModel" (7 : Nat) "ConflictSetsModel" "literals" "[I") ∈ lw_all := lw_g (lw_at lw_m1 189 rfl) rfl
theorem q215 : (Jvm.Cond.fieldLink "ConflictSetsModel" (13 : Nat) "ConflictSetsModel" "prices" "[I") ∈ lw_all := lw_g (lw_at lw_m1 190 rfl) rfl
theorem q216 : (Jvm.Cond.fieldLink "ConflictSetsModel" (16 : Nat) "ConflictSetsModel" "able" "[Z") ∈ lw_all := lw_g (lw_at lw_m1 191 rfl) rfl
theorem q217 : (Jvm.Cond.lays "ConflictSetsModel" "ConflictSetsModel" "draft" "I") ∈ lw_all := lw_g (lw_at lw_m1 192 rfl) rfl
theorem q218 : (Jvm.Cond.soleField "ConflictSetsModel" "draft") ∈ lw_all := lw_g (lw_at lw_m1 193 rfl) rfl
theorem q219 : (Jvm.Cond.lays "ConflictSetsModel" "ConflictSetsModel" "count" "I") ∈ lw_all := lw_g (lw_at lw_m1 194 rfl) rfl
theorem q220 : (Jvm.Cond.soleField "ConflictSetsModel" "count") ∈ lw_all := lw_g (lw_at lw_m1 195 rfl) rfl
theorem q221 : (Jvm.Cond.lays "ConflictSetsModel" "ConflictSetsModel" "literals" "[I") ∈ lw_all := lw_g (lw_at lw_m1 196 rfl) rfl
theorem q222 : (Jvm.Cond.soleField "ConflictSetsModel" "literals") ∈ lw_all := lw_g (lw_at lw_m1 197 rfl) rfl
theorem q223 : (Jvm.Cond.lays "ConflictSetsModel" "ConflictSetsModel" "prices" "[I") ∈ lw_all := lw_g (lw_at lw_m1 198 rfl) rfl
theorem q224 : (Jvm.Cond.soleField "ConflictSetsModel" "prices") ∈ lw_all := lw_g (lw_at lw_m1 199 rfl) rfl
theorem q225 : (Jvm.Cond.lays "ConflictSetsModel" "ConflictSetsModel" "able" "[Z") ∈ lw_all := lw_g (lw_at lw_m1 200 rfl) rfl
theorem q226 : (Jvm.Cond.soleField "ConflictSetsModel" "able") ∈ lw_all := lw_g (lw_at lw_m1 201 rfl) rfl
theorem q227 : (Jvm.Cond.superclass "ConflictSetsModel" "java/lang/Object") ∈ lw_all := lw_g (lw_at lw_m1 202 rfl) rfl
theorem q230 : (Jvm.Cond.instanceMethod ({ cls := "ConflictSetsModel", name := "literal", desc := "(I)I" } : Jvm.MethodName)) ∈ lw_all := lw_g (lw_at lw_m1 205 rfl) rfl
theorem q231 : (Jvm.Cond.selects "ConflictSetsModel" ({ cls := "ConflictSetsModel", name := "literal", desc := "(I)I" } : Jvm.MethodName) ({ cls := "ConflictSetsModel", name := "literal", desc := "(I)I" } : Jvm.MethodName)) ∈ lw_all := lw_g (lw_at lw_m1 206 rfl) rfl
theorem q232 : (Jvm.Cond.code ({ cls := "ConflictSetsModel", name := "literal", desc := "(I)I" } : Jvm.MethodName) prog_3_method_3_code (3 : Nat) (Option.some Jvm.ClassFile.FieldType.int)) ∈ lw_all := lw_g (lw_at lw_m1 207 rfl) rfl
theorem q233 : (Jvm.Cond.methodLink "ConflictSetsModel" (24 : Nat) ({ cls := "ConflictSetsModel", name := "size", desc := "(I)I" } : Jvm.MethodName)) ∈ lw_all := lw_g (lw_at lw_m1 208 rfl) rfl
theorem q234 : (Jvm.Cond.privateMethod ({ cls := "ConflictSetsModel", name := "size", desc := "(I)I" } : Jvm.MethodName)) ∈ lw_tbl := lw_at lw_m1 209 rfl
theorem q235 : (Jvm.Cond.instanceMethod ({ cls := "ConflictSetsModel", name := "size", desc := "(I)I" } : Jvm.MethodName)) ∈ lw_all := lw_g (lw_at lw_m1 210 rfl) rfl
theorem q236 : (Jvm.Cond.code ({ cls := "ConflictSetsModel", name := "size", desc := "(I)I" } : Jvm.MethodName) prog_3_method_2_code (4 : Nat) (Option.some Jvm.ClassFile.FieldType.int)) ∈ lw_all := lw_g (lw_at lw_m1 211 rfl) rfl
theorem q238 : (Jvm.Cond.instanceMethod ({ cls := "ConflictSetsModel", name := "add", desc := "()I" } : Jvm.MethodName)) ∈ lw_all := lw_g (lw_at lw_m1 213 rfl) rfl
theorem q239 : (Jvm.Cond.selects "ConflictSetsModel" ({ cls := "ConflictSetsModel", name := "add", desc := "()I" } : Jvm.MethodName) ({ cls := "ConflictSetsModel", name := "add", desc := "()I" } : Jvm.MethodName)) ∈ lw_all := lw_g (lw_at lw_m1 214 rfl) rfl
theorem q240 : (Jvm.Cond.code ({ cls := "ConflictSetsModel", name := "add", desc := "()I" } : Jvm.MethodName) prog_3_method_4_code (2 : Nat) (Option.some Jvm.ClassFile.FieldType.int)) ∈ lw_all := lw_g (lw_at lw_m1 215 rfl) rfl
theorem q242 : (Jvm.Cond.instanceMethod ({ cls := "ConflictSetsModel", name := "clear", desc := "()I" } : Jvm.MethodName)) ∈ lw_all := lw_g (lw_at lw_m1 217 rfl) rfl
theorem q243 : (Jvm.Cond.selects "ConflictSetsModel" ({ cls := "ConflictSetsModel", name := "clear", desc := "()I" } : Jvm.MethodName) ({ cls := "ConflictSetsModel", name := "clear", desc := "()I" } : Jvm.MethodName)) ∈ lw_all := lw_g (lw_at lw_m1 218 rfl) rfl
theorem q244 : (Jvm.Cond.code ({ cls := "ConflictSetsModel", name := "clear", desc := "()I" } : Jvm.MethodName) prog_3_method_5_code (2 : Nat) (Option.some Jvm.ClassFile.FieldType.int)) ∈ lw_all := lw_g (lw_at lw_m1 219 rfl) rfl
theorem q246 : (Jvm.Cond.instanceMethod ({ cls := "ConflictSetsModel", name := "remove", desc := "(I)I" } : Jvm.MethodName)) ∈ lw_all := lw_g (lw_at lw_m1 221 rfl) rfl
theorem q247 : (Jvm.Cond.selects "ConflictSetsModel" ({ cls := "ConflictSetsModel", name := "remove", desc := "(I)I" } : Jvm.MethodName) ({ cls := "ConflictSetsModel", name := "remove", desc := "(I)I" } : Jvm.MethodName)) ∈ lw_all := lw_g (lw_at lw_m1 222 rfl) rfl
theorem q248 : (Jvm.Cond.code ({ cls := "ConflictSetsModel", name := "remove", desc := "(I)I" } : Jvm.MethodName) prog_3_method_7_code (3 : Nat) (Option.some Jvm.ClassFile.FieldType.int)) ∈ lw_all := lw_g (lw_at lw_m1 223 rfl) rfl
theorem q249 : (Jvm.Cond.methodLink "ConflictSetsModel" (31 : Nat) ({ cls := "ConflictSetsModel", name := "bad", desc := "(I)Z" } : Jvm.MethodName)) ∈ lw_all := lw_g (lw_at lw_m1 224 rfl) rfl
theorem q250 : (Jvm.Cond.privateMethod ({ cls := "ConflictSetsModel", name := "bad", desc := "(I)Z" } : Jvm.MethodName)) ∈ lw_tbl := lw_at lw_m1 225 rfl
theorem q251 : (Jvm.Cond.instanceMethod ({ cls := "ConflictSetsModel", name := "bad", desc := "(I)Z" } : Jvm.MethodName)) ∈ lw_all := lw_g (lw_at lw_m1 226 rfl) rfl
theorem q252 : (Jvm.Cond.code ({ cls := "ConflictSetsModel", name := "bad", desc := "(I)Z" } : Jvm.MethodName) prog_3_method_6_code (2 : Nat) (Option.some Jvm.ClassFile.FieldType.boolean)) ∈ lw_all := lw_g (lw_at lw_m1 227 rfl) rfl
theorem q254 : (Jvm.Cond.instanceMethod ({ cls := "ConflictSetsModel", name := "price", desc := "(II)I" } : Jvm.MethodName)) ∈ lw_all := lw_g (lw_at lw_m1 229 rfl) rfl
theorem q255 : (Jvm.Cond.selects "ConflictSetsModel" ({ cls := "ConflictSetsModel", name := "price", desc := "(II)I" } : Jvm.MethodName) ({ cls := "ConflictSetsModel", name := "price", desc := "(II)I" } : Jvm.MethodName)) ∈ lw_all := lw_g (lw_at lw_m1 230 rfl) rfl
theorem q256 : (Jvm.Cond.code ({ cls := "ConflictSetsModel", name := "price", desc := "(II)I" } : Jvm.MethodName) prog_3_method_8_code (4 : Nat) (Option.some Jvm.ClassFile.FieldType.int)) ∈ lw_all := lw_g (lw_at lw_m1 231 rfl) rfl
theorem q258 : (Jvm.Cond.instanceMethod ({ cls := "ConflictSetsModel", name := "conditions", desc := "()I" } : Jvm.MethodName)) ∈ lw_all := lw_g (lw_at lw_m1 233 rfl) rfl
theorem q259 : (Jvm.Cond.selects "ConflictSetsModel" ({ cls := "ConflictSetsModel", name := "conditions", desc := "()I" } : Jvm.MethodName) ({ cls := "ConflictSetsModel", name := "conditions", desc := "()I" } : Jvm.MethodName)) ∈ lw_all := lw_g (lw_at lw_m1 234 rfl) rfl
theorem q260 : (Jvm.Cond.code ({ cls := "ConflictSetsModel", name := "conditions", desc := "()I" } : Jvm.MethodName) prog_3_method_9_code (1 : Nat) (Option.some Jvm.ClassFile.FieldType.int)) ∈ lw_all := lw_g (lw_at lw_m1 235 rfl) rfl
theorem q262 : (Jvm.Cond.instanceMethod ({ cls := "ConflictSetsModel", name := "possible", desc := "(I)I" } : Jvm.MethodName)) ∈ lw_all := lw_g (lw_at lw_m1 237 rfl) rfl
theorem q263 : (Jvm.Cond.selects "ConflictSetsModel" ({ cls := "ConflictSetsModel", name := "possible", desc := "(I)I" } : Jvm.MethodName) ({ cls := "ConflictSetsModel", name := "possible", desc := "(I)I" } : Jvm.MethodName)) ∈ lw_all := lw_g (lw_at lw_m1 238 rfl) rfl
theorem q264 : (Jvm.Cond.code ({ cls := "ConflictSetsModel", name := "possible", desc := "(I)I" } : Jvm.MethodName) prog_3_method_14_code (2 : Nat) (Option.some Jvm.ClassFile.FieldType.int)) ∈ lw_all := lw_g (lw_at lw_m1 239 rfl) rfl
theorem q265 : (Jvm.Cond.methodLink "ConflictSetsModel" (42 : Nat) ({ cls := "ConflictSetsModel", name := "badSet", desc := "(I)Z" } : Jvm.MethodName)) ∈ lw_all := lw_g (lw_at lw_m2 0 rfl) rfl
theorem q266 : (Jvm.Cond.privateMethod ({ cls := "ConflictSetsModel", name := "badSet", desc := "(I)Z" } : Jvm.MethodName)) ∈ lw_tbl := lw_at lw_m2 1 rfl
theorem q267 : (Jvm.Cond.instanceMethod ({ cls := "ConflictSetsModel", name := "badSet", desc := "(I)Z" } : Jvm.MethodName)) ∈ lw_all := lw_g (lw_at lw_m2 2 rfl) rfl
theorem q268 : (Jvm.Cond.code ({ cls := "ConflictSetsModel", name := "badSet", desc := "(I)Z" } : Jvm.MethodName) prog_3_method_10_code (2 : Nat) (Option.some Jvm.ClassFile.FieldType.boolean)) ∈ lw_all := lw_g (lw_at lw_m2 3 rfl) rfl
theorem q269 : (Jvm.Cond.methodLink "ConflictSetsModel" (45 : Nat) ({ cls := "ConflictSetsModel", name := "find", desc := "(I)I" } : Jvm.MethodName)) ∈ lw_all := lw_g (lw_at lw_m2 4 rfl) rfl
theorem q270 : (Jvm.Cond.privateMethod ({ cls := "ConflictSetsModel", name := "find", desc := "(I)I" } : Jvm.MethodName)) ∈ lw_tbl := lw_at lw_m2 5 rfl
theorem q271 : (Jvm.Cond.instanceMethod ({ cls := "ConflictSetsModel", name := "find", desc := "(I)I" } : Jvm.MethodName)) ∈ lw_all := lw_g (lw_at lw_m2 6 rfl) rfl
theorem q272 : (Jvm.Cond.code ({ cls := "ConflictSetsModel", name := "find", desc := "(I)I" } : Jvm.MethodName) prog_3_method_13_code (3 : Nat) (Option.some Jvm.ClassFile.FieldType.int)) ∈ lw_all := lw_g (lw_at lw_m2 7 rfl) rfl
theorem q273 : (Jvm.Cond.methodLink "ConflictSetsModel" (39 : Nat) ({ cls := "ConflictSetsModel", name := "all", desc := "(II)Z" } : Jvm.MethodName)) ∈ lw_all := lw_g (lw_at lw_m2 8 rfl) rfl
theorem q274 : (Jvm.Cond.privateMethod ({ cls := "ConflictSetsModel", name := "all", desc := "(II)Z" } : Jvm.MethodName)) ∈ lw_tbl := lw_at lw_m2 9 rfl
theorem q275 : (Jvm.Cond.instanceMethod ({ cls := "ConflictSetsModel", name := "all", desc := "(II)Z" } : Jvm.MethodName)) ∈ lw_all := lw_g (lw_at lw_m2 10 rfl) rfl
theorem q276 : (Jvm.Cond.code ({ cls := "ConflictSetsModel", name := "all", desc := "(II)Z" } : Jvm.MethodName) prog_3_method_12_code (4 : Nat) (Option.some Jvm.ClassFile.FieldType.boolean)) ∈ lw_all := lw_g (lw_at lw_m2 11 rfl) rfl
theorem q277 : (Jvm.Cond.methodLink "ConflictSetsModel" (35 : Nat) ({ cls := "ConflictSetsModel", name := "holds", desc := "(II)Z" } : Jvm.MethodName)) ∈ lw_all := lw_g (lw_at lw_m2 12 rfl) rfl
theorem q278 : (Jvm.Cond.privateMethod ({ cls := "ConflictSetsModel", name := "holds", desc := "(II)Z" } : Jvm.MethodName)) ∈ lw_tbl := lw_at lw_m2 13 rfl
theorem q279 : (Jvm.Cond.instanceMethod ({ cls := "ConflictSetsModel", name := "holds", desc := "(II)Z" } : Jvm.MethodName)) ∈ lw_all := lw_g (lw_at lw_m2 14 rfl) rfl
theorem q280 : (Jvm.Cond.code ({ cls := "ConflictSetsModel", name := "holds", desc := "(II)Z" } : Jvm.MethodName) prog_3_method_11_code (5 : Nat) (Option.some Jvm.ClassFile.FieldType.boolean)) ∈ lw_all := lw_g (lw_at lw_m2 15 rfl) rfl
theorem q282 : (Jvm.Cond.instanceMethod ({ cls := "ConflictSetsModel", name := "model", desc := "(I)I" } : Jvm.MethodName)) ∈ lw_all := lw_g (lw_at lw_m2 17 rfl) rfl
theorem q283 : (Jvm.Cond.selects "ConflictSetsModel" ({ cls := "ConflictSetsModel", name := "model", desc := "(I)I" } : Jvm.MethodName) ({ cls := "ConflictSetsModel", name := "model", desc := "(I)I" } : Jvm.MethodName)) ∈ lw_all := lw_g (lw_at lw_m2 18 rfl) rfl
theorem q284 : (Jvm.Cond.code ({ cls := "ConflictSetsModel", name := "model", desc := "(I)I" } : Jvm.MethodName) prog_3_method_15_code (2 : Nat) (Option.some Jvm.ClassFile.FieldType.int)) ∈ lw_all := lw_g (lw_at lw_m2 19 rfl) rfl
theorem q286 : (Jvm.Cond.instanceMethod ({ cls := "ConflictSetsModel", name := "kernels", desc := "()I" } : Jvm.MethodName)) ∈ lw_all := lw_g (lw_at lw_m2 21 rfl) rfl
theorem q287 : (Jvm.Cond.selects "ConflictSetsModel" ({ cls := "ConflictSetsModel", name := "kernels", desc := "()I" } : Jvm.MethodName) ({ cls := "ConflictSetsModel", name := "kernels", desc := "()I" } : Jvm.MethodName)) ∈ lw_all := lw_g (lw_at lw_m2 22 rfl) rfl
theorem q288 : (Jvm.Cond.code ({ cls := "ConflictSetsModel", name := "kernels", desc := "()I" } : Jvm.MethodName) prog_3_method_20_code (1 : Nat) (Option.some Jvm.ClassFile.FieldType.int)) ∈ lw_all := lw_g (lw_at lw_m2 23 rfl) rfl
theorem q289 : (Jvm.Cond.methodLink "ConflictSetsModel" (57 : Nat) ({ cls := "ConflictSetsModel", name := "listed", desc := "(ZI)I" } : Jvm.MethodName)) ∈ lw_all := lw_g (lw_at lw_m2 24 rfl) rfl
theorem q290 : (Jvm.Cond.privateMethod ({ cls := "ConflictSetsModel", name := "listed", desc := "(ZI)I" } : Jvm.MethodName)) ∈ lw_tbl := lw_at lw_m2 25 rfl
theorem q291 : (Jvm.Cond.instanceMethod ({ cls := "ConflictSetsModel", name := "listed", desc := "(ZI)I" } : Jvm.MethodName)) ∈ lw_all := lw_g (lw_at lw_m2 26 rfl) rfl
theorem q292 : (Jvm.Cond.code ({ cls := "ConflictSetsModel", name := "listed", desc := "(ZI)I" } : Jvm.MethodName) prog_3_method_19_code (5 : Nat) (Option.some Jvm.ClassFile.FieldType.int)) ∈ lw_all := lw_g (lw_at lw_m2 27 rfl) rfl
theorem q293 : (Jvm.Cond.methodLink "ConflictSetsModel" (48 : Nat) ({ cls := "ConflictSetsModel", name := "work", desc := "()V" } : Jvm.MethodName)) ∈ lw_all := lw_g (lw_at lw_m2 28 rfl) rfl
theorem q294 : (Jvm.Cond.privateMethod ({ cls := "ConflictSetsModel", name := "work", desc := "()V" } : Jvm.MethodName)) ∈ lw_tbl := lw_at lw_m2 29 rfl
theorem q295 : (Jvm.Cond.instanceMethod ({ cls := "ConflictSetsModel", name := "work", desc := "()V" } : Jvm.MethodName)) ∈ lw_all := lw_g (lw_at lw_m2 30 rfl) rfl
theorem q296 : (Jvm.Cond.code ({ cls := "ConflictSetsModel", name := "work", desc := "()V" } : Jvm.MethodName) prog_3_method_16_code (2 : Nat) (Option.none : Option Jvm.ClassFile.FieldType)) ∈ lw_all := lw_g (lw_at lw_m2 31 rfl) rfl
theorem q297 : (Jvm.Cond.methodLink "ConflictSetsModel" (51 : Nat) ({ cls := "ConflictSetsModel", name := "isKernel", desc := "(I)Z" } : Jvm.MethodName)) ∈ lw_all := lw_g (lw_at lw_m2 32 rfl) rfl
theorem q298 : (Jvm.Cond.privateMethod ({ cls := "ConflictSetsModel", name := "isKernel", desc := "(I)Z" } : Jvm.MethodName)) ∈ lw_tbl := lw_at lw_m2 33 rfl
theorem q299 : (Jvm.Cond.instanceMethod ({ cls := "ConflictSetsModel", name := "isKernel", desc := "(I)Z" } : Jvm.MethodName)) ∈ lw_all := lw_g (lw_at lw_m2 34 rfl) rfl
theorem q300 : (Jvm.Cond.code ({ cls := "ConflictSetsModel", name := "isKernel", desc := "(I)Z" } : Jvm.MethodName) prog_3_method_17_code (3 : Nat) (Option.some Jvm.ClassFile.FieldType.boolean)) ∈ lw_all := lw_g (lw_at lw_m2 35 rfl) rfl
theorem q301 : (Jvm.Cond.methodLink "ConflictSetsModel" (54 : Nat) ({ cls := "ConflictSetsModel", name := "isCorrection", desc := "(I)Z" } : Jvm.MethodName)) ∈ lw_all := lw_g (lw_at lw_m2 36 rfl) rfl
theorem q302 : (Jvm.Cond.privateMethod ({ cls := "ConflictSetsModel", name := "isCorrection", desc := "(I)Z" } : Jvm.MethodName)) ∈ lw_tbl := lw_at lw_m2 37 rfl
theorem q303 : (Jvm.Cond.instanceMethod ({ cls := "ConflictSetsModel", name := "isCorrection", desc := "(I)Z" } : Jvm.MethodName)) ∈ lw_all := lw_g (lw_at lw_m2 38 rfl) rfl
theorem q304 : (Jvm.Cond.code ({ cls := "ConflictSetsModel", name := "isCorrection", desc := "(I)Z" } : Jvm.MethodName) prog_3_method_18_code (4 : Nat) (Option.some Jvm.ClassFile.FieldType.boolean)) ∈ lw_all := lw_g (lw_at lw_m2 39 rfl) rfl
theorem q306 : (Jvm.Cond.instanceMethod ({ cls := "ConflictSetsModel", name := "kernel", desc := "(I)I" } : Jvm.MethodName)) ∈ lw_all := lw_g (lw_at lw_m2 41 rfl) rfl
theorem q307 : (Jvm.Cond.selects "ConflictSetsModel" ({ cls := "ConflictSetsModel", name := "kernel", desc := "(I)I" } : Jvm.MethodName) ({ cls := "ConflictSetsModel", name := "kernel", desc := "(I)I" } : Jvm.MethodName)) ∈ lw_all := lw_g (lw_at lw_m2 42 rfl) rfl
theorem q308 : (Jvm.Cond.code ({ cls := "ConflictSetsModel", name := "kernel", desc := "(I)I" } : Jvm.MethodName) prog_3_method_21_code (2 : Nat) (Option.some Jvm.ClassFile.FieldType.int)) ∈ lw_all := lw_g (lw_at lw_m2 43 rfl) rfl
theorem q310 : (Jvm.Cond.instanceMethod ({ cls := "ConflictSetsModel", name := "corrections", desc := "()I" } : Jvm.MethodName)) ∈ lw_all := lw_g (lw_at lw_m2 45 rfl) rfl
theorem q311 : (Jvm.Cond.selects "ConflictSetsModel" ({ cls := "ConflictSetsModel", name := "corrections", desc := "()I" } : Jvm.MethodName) ({ cls := "ConflictSetsModel", name := "corrections", desc := "()I" } : Jvm.MethodName)) ∈ lw_all := lw_g (lw_at lw_m2 46 rfl) rfl
theorem q312 : (Jvm.Cond.code ({ cls := "ConflictSetsModel", name := "corrections", desc := "()I" } : Jvm.MethodName) prog_3_method_22_code (1 : Nat) (Option.some Jvm.ClassFile.FieldType.int)) ∈ lw_all := lw_g (lw_at lw_m2 47 rfl) rfl
theorem q314 : (Jvm.Cond.instanceMethod ({ cls := "ConflictSetsModel", name := "correction", desc := "(I)I" } : Jvm.MethodName)) ∈ lw_all := lw_g (lw_at lw_m2 49 rfl) rfl
theorem q315 : (Jvm.Cond.selects "ConflictSetsModel" ({ cls := "ConflictSetsModel", name := "correction", desc := "(I)I" } : Jvm.MethodName) ({ cls := "ConflictSetsModel", name := "correction", desc := "(I)I" } : Jvm.MethodName)) ∈ lw_all := lw_g (lw_at lw_m2 50 rfl) rfl
theorem q316 : (Jvm.Cond.code ({ cls := "ConflictSetsModel", name := "correction", desc := "(I)I" } : Jvm.MethodName) prog_3_method_23_code (2 : Nat) (Option.some Jvm.ClassFile.FieldType.int)) ∈ lw_all := lw_g (lw_at lw_m2 51 rfl) rfl
theorem q318 : (Jvm.Cond.instanceMethod ({ cls := "ConflictSetsModel", name := "cheapest", desc := "()I" } : Jvm.MethodName)) ∈ lw_all := lw_g (lw_at lw_m2 53 rfl) rfl
theorem q319 : (Jvm.Cond.selects "ConflictSetsModel" ({ cls := "ConflictSetsModel", name := "cheapest", desc := "()I" } : Jvm.MethodName) ({ cls := "ConflictSetsModel", name := "cheapest", desc := "()I" } : Jvm.MethodName)) ∈ lw_all := lw_g (lw_at lw_m2 54 rfl) rfl
theorem q320 : (Jvm.Cond.code ({ cls := "ConflictSetsModel", name := "cheapest", desc := "()I" } : Jvm.MethodName) prog_3_method_26_code (2 : Nat) (Option.some Jvm.ClassFile.FieldType.int)) ∈ lw_all := lw_g (lw_at lw_m2 55 rfl) rfl
theorem q321 : (Jvm.Cond.methodLink "ConflictSetsModel" (64 : Nat) ({ cls := "ConflictSetsModel", name := "best", desc := "()I" } : Jvm.MethodName)) ∈ lw_all := lw_g (lw_at lw_m2 56 rfl) rfl
theorem q322 : (Jvm.Cond.privateMethod ({ cls := "ConflictSetsModel", name := "best", desc := "()I" } : Jvm.MethodName)) ∈ lw_tbl := lw_at lw_m2 57 rfl
theorem q323 : (Jvm.Cond.instanceMethod ({ cls := "ConflictSetsModel", name := "best", desc := "()I" } : Jvm.MethodName)) ∈ lw_all := lw_g (lw_at lw_m2 58 rfl) rfl
theorem q324 : (Jvm.Cond.code ({ cls := "ConflictSetsModel", name := "best", desc := "()I" } : Jvm.MethodName) prog_3_method_25_code (3 : Nat) (Option.some Jvm.ClassFile.FieldType.int)) ∈ lw_all := lw_g (lw_at lw_m2 59 rfl) rfl
theorem q325 : (Jvm.Cond.methodLink "ConflictSetsModel" (61 : Nat) ({ cls := "ConflictSetsModel", name := "worth", desc := "(I)I" } : Jvm.MethodName)) ∈ lw_all := lw_g (lw_at lw_m2 60 rfl) rfl
theorem q326 : (Jvm.Cond.privateMethod ({ cls := "ConflictSetsModel", name := "worth", desc := "(I)I" } : Jvm.MethodName)) ∈ lw_tbl := lw_at lw_m2 61 rfl
theorem q327 : (Jvm.Cond.instanceMethod ({ cls := "ConflictSetsModel", name := "worth", desc := "(I)I" } : Jvm.MethodName)) ∈ lw_all := lw_g (lw_at lw_m2 62 rfl) rfl
theorem q328 : (Jvm.Cond.code ({ cls := "ConflictSetsModel", name := "worth", desc := "(I)I" } : Jvm.MethodName) prog_3_method_24_code (4 : Nat) (Option.some Jvm.ClassFile.FieldType.int)) ∈ lw_all := lw_g (lw_at lw_m2 63 rfl) rfl
theorem q330 : (Jvm.Cond.instanceMethod ({ cls := "ConflictSetsModel", name := "cheapestSet", desc := "()I" } : Jvm.MethodName)) ∈ lw_all := lw_g (lw_at lw_m2 65 rfl) rfl
theorem q331 : (Jvm.Cond.selects "ConflictSetsModel" ({ cls := "ConflictSetsModel", name := "cheapestSet", desc := "()I" } : Jvm.MethodName) ({ cls := "ConflictSetsModel", name := "cheapestSet", desc := "()I" } : Jvm.MethodName)) ∈ lw_all := lw_g (lw_at lw_m2 66 rfl) rfl
theorem q332 : (Jvm.Cond.code ({ cls := "ConflictSetsModel", name := "cheapestSet", desc := "()I" } : Jvm.MethodName) prog_3_method_27_code (1 : Nat) (Option.some Jvm.ClassFile.FieldType.int)) ∈ lw_all := lw_g (lw_at lw_m2 67 rfl) rfl
theorem q334 : (Jvm.Cond.instanceMethod ({ cls := "ConflictSetsModel", name := "smallest", desc := "()I" } : Jvm.MethodName)) ∈ lw_all := lw_g (lw_at lw_m2 69 rfl) rfl
theorem q335 : (Jvm.Cond.selects "ConflictSetsModel" ({ cls := "ConflictSetsModel", name := "smallest", desc := "()I" } : Jvm.MethodName) ({ cls := "ConflictSetsModel", name := "smallest", desc := "()I" } : Jvm.MethodName)) ∈ lw_all := lw_g (lw_at lw_m2 70 rfl) rfl
theorem q336 : (Jvm.Cond.code ({ cls := "ConflictSetsModel", name := "smallest", desc := "()I" } : Jvm.MethodName) prog_3_method_28_code (3 : Nat) (Option.some Jvm.ClassFile.FieldType.int)) ∈ lw_all := lw_g (lw_at lw_m2 71 rfl) rfl
theorem q338 : (Jvm.Cond.instanceMethod ({ cls := "ConflictSetsModel", name := "blame", desc := "(I)I" } : Jvm.MethodName)) ∈ lw_all := lw_g (lw_at lw_m2 73 rfl) rfl
theorem q339 : (Jvm.Cond.selects "ConflictSetsModel" ({ cls := "ConflictSetsModel", name := "blame", desc := "(I)I" } : Jvm.MethodName) ({ cls := "ConflictSetsModel", name := "blame", desc := "(I)I" } : Jvm.MethodName)) ∈ lw_all := lw_g (lw_at lw_m2 74 rfl) rfl
theorem q340 : (Jvm.Cond.code ({ cls := "ConflictSetsModel", name := "blame", desc := "(I)I" } : Jvm.MethodName) prog_3_method_29_code (4 : Nat) (Option.some Jvm.ClassFile.FieldType.int)) ∈ lw_all := lw_g (lw_at lw_m2 75 rfl) rfl
theorem q342 : (Jvm.Cond.instanceMethod ({ cls := "ConflictSetsModel", name := "core", desc := "()I" } : Jvm.MethodName)) ∈ lw_all := lw_g (lw_at lw_m2 77 rfl) rfl
theorem q343 : (Jvm.Cond.selects "ConflictSetsModel" ({ cls := "ConflictSetsModel", name := "core", desc := "()I" } : Jvm.MethodName) ({ cls := "ConflictSetsModel", name := "core", desc := "()I" } : Jvm.MethodName)) ∈ lw_all := lw_g (lw_at lw_m2 78 rfl) rfl
theorem q344 : (Jvm.Cond.code ({ cls := "ConflictSetsModel", name := "core", desc := "()I" } : Jvm.MethodName) prog_3_method_30_code (3 : Nat) (Option.some Jvm.ClassFile.FieldType.int)) ∈ lw_all := lw_g (lw_at lw_m2 79 rfl) rfl
theorem q346 : (Jvm.Cond.instanceMethod ({ cls := "ConflictSetsModel", name := "sort", desc := "(I)I" } : Jvm.MethodName)) ∈ lw_all := lw_g (lw_at lw_m2 81 rfl) rfl
theorem q347 : (Jvm.Cond.selects "ConflictSetsModel" ({ cls := "ConflictSetsModel", name := "sort", desc := "(I)I" } : Jvm.MethodName) ({ cls := "ConflictSetsModel", name := "sort", desc := "(I)I" } : Jvm.MethodName)) ∈ lw_all := lw_g (lw_at lw_m2 82 rfl) rfl
theorem q348 : (Jvm.Cond.code ({ cls := "ConflictSetsModel", name := "sort", desc := "(I)I" } : Jvm.MethodName) prog_3_method_31_code (2 : Nat) (Option.some Jvm.ClassFile.FieldType.int)) ∈ lw_all := lw_g (lw_at lw_m2 83 rfl) rfl
theorem q350 : (Jvm.Cond.instanceMethod ({ cls := "ConflictSetsModel", name := "width", desc := "(I)I" } : Jvm.MethodName)) ∈ lw_all := lw_g (lw_at lw_m2 85 rfl) rfl
theorem q351 : (Jvm.Cond.selects "ConflictSetsModel" ({ cls := "ConflictSetsModel", name := "width", desc := "(I)I" } : Jvm.MethodName) ({ cls := "ConflictSetsModel", name := "width", desc := "(I)I" } : Jvm.MethodName)) ∈ lw_all := lw_g (lw_at lw_m2 86 rfl) rfl
theorem q352 : (Jvm.Cond.code ({ cls := "ConflictSetsModel", name := "width", desc := "(I)I" } : Jvm.MethodName) prog_3_method_32_code (4 : Nat) (Option.some Jvm.ClassFile.FieldType.int)) ∈ lw_all := lw_g (lw_at lw_m2 87 rfl) rfl
theorem in_X1 : ∀ w ∈ wsX10, w ∈ lw_all := lw_in wsX10 [217, 219, 221, 223, 225] (by decide +kernel) (by decide +kernel)
end
section
/-! java/lang/Object -/
set_option maxRecDepth 100000
def RJ0 : String := "java/lang/Object"
abbrev cJ0_init : ByteArray := object_method_1_code
def yJ0_init : MethodName := ⟨RJ0, "<init>", "()V"⟩
theorem dJ0_init_0 : decode cJ0_init 0 = .ok (.return_, 1) := by decide +kernel
theorem q34 : (Jvm.Cond.instanceMethod ({ cls := "java/lang/Object", name := "<init>", desc := "()V" } : Jvm.MethodName)) ∈ lw_all := lw_g (lw_at lw_m1 9 rfl) rfl
theorem q35 : (Jvm.Cond.code ({ cls := "java/lang/Object", name := "<init>", desc := "()V" } : Jvm.MethodName) object_method_1_code (1 : Nat) (Option.none : Option Jvm.ClassFile.FieldType)) ∈ lw_all := lw_g (lw_at lw_m1 10 rfl) rfl
/-! the law's own entry -/
set_option maxRecDepth 100000
abbrev cL_law : ByteArray := code
theorem dL_law_0 : decode cL_law 0 = .ok (.new 7, 3) := by decide +kernel
theorem dL_law_3 : decode cL_law 3 = .ok (.dup, 1) := by decide +kernel
theorem dL_law_4 : decode cL_law 4 = .ok (.invokespecial 9, 3) := by decide +kernel
theorem dL_law_7 : decode cL_law 7 = .ok (.astore_n 1, 1) := by decide +kernel
theorem dL_law_8 : decode cL_law 8 = .ok (.new 10, 3) := by decide +kernel
theorem dL_law_11 : decode cL_law 11 = .ok (.dup, 1) := by decide +kernel
theorem dL_law_12 : decode cL_law 12 = .ok (.invokespecial 12, 3) := by decide +kernel
theorem dL_law_15 : decode cL_law 15 = .ok (.astore_n 2, 1) := by decide +kernel
theorem dL_law_16 : decode cL_law 16 = .ok (.iconst 0, 1) := by decide +kernel
theorem dL_law_17 : decode cL_law 17 = .ok (.istore_n 3, 1) := by decide +kernel
theorem dL_law_18 : decode cL_law 18 = .ok (.iload_n 3, 1) := by decide +kernel
theorem dL_law_19 : decode cL_law 19 = .ok (.aload_n 0, 1) := by decide +kernel
theorem dL_law_20 : decode cL_law 20 = .ok (.arraylength, 1) := by decide +kernel
theorem dL_law_21 : decode cL_law 21 = .ok (.iconst 3, 1) := by decide +kernel
theorem dL_law_22 : decode cL_law 22 = .ok (.isub, 1) := by decide +kernel
theorem dL_law_23 : decode cL_law 23 = .ok (.if_icmp .gt 464, 3) := by decide +kernel
theorem dL_law_26 : decode cL_law 26 = .ok (.aload_n 0, 1) := by decide +kernel
theorem dL_law_27 : decode cL_law 27 = .ok (.iload_n 3, 1) := by decide +kernel
theorem dL_law_28 : decode cL_law 28 = .ok (.iaload, 1) := by decide +kernel
theorem dL_law_29 : decode cL_law 29 = .ok (.bipush 31, 2) := by decide +kernel
theorem dL_law_31 : decode cL_law 31 = .ok (.iand, 1) := by decide +kernel
theorem dL_law_32 : decode cL_law 32 = .ok (.tableswitch 449 0 18 #[92, 115, 128, 141, 164, 197, 210, 233, 256, 269, 292, 305, 328, 341, 354, 367, 390, 403, 426], 92) := by decide +kernel
theorem dL_law_124 : decode cL_law 124 = .ok (.aload_n 1, 1) := by decide +kernel
theorem dL_law_125 : decode cL_law 125 = .ok (.aload_n 0, 1) := by decide +kernel
theorem dL_law_126 : decode cL_law 126 = .ok (.iload_n 3, 1) := by decide +kernel
theorem dL_law_127 : decode cL_law 127 = .ok (.iconst 1, 1) := by decide +kernel
theorem dL_law_128 : decode cL_law 128 = .ok (.iadd, 1) := by decide +kernel
theorem dL_law_129 : decode cL_law 129 = .ok (.iaload, 1) := by decide +kernel
theorem dL_law_130 : decode cL_law 130 = .ok (.invokevirtual 13, 3) := by decide +kernel
theorem dL_law_133 : decode cL_law 133 = .ok (.aload_n 2, 1) := by decide +kernel
theorem dL_law_134 : decode cL_law 134 = .ok (.aload_n 0, 1) := by decide +kernel
theorem dL_law_135 : decode cL_law 135 = .ok (.iload_n 3, 1) := by decide +kernel
theorem dL_law_136 : decode cL_law 136 = .ok (.iconst 1, 1) := by decide +kernel
theorem dL_law_137 : decode cL_law 137 = .ok (.iadd, 1) := by decide +kernel
theorem dL_law_138 : decode cL_law 138 = .ok (.iaload, 1) := by decide +kernel
theorem dL_law_139 : decode cL_law 139 = .ok (.invokevirtual 17, 3) := by decide +kernel
theorem dL_law_142 : decode cL_law 142 = .ok (.if_icmp .eq 339, 3) := by decide +kernel
theorem dL_law_145 : decode cL_law 145 = .ok (.iconst 0, 1) := by decide +kernel
theorem dL_law_146 : decode cL_law 146 = .ok (.ireturn, 1) := by decide +kernel
theorem dL_law_147 : decode cL_law 147 = .ok (.aload_n 1, 1) := by decide +kernel
theorem dL_law_148 : decode cL_law 148 = .ok (.invokevirtual 18, 3) := by decide +kernel
theorem dL_law_151 : decode cL_law 151 = .ok (.aload_n 2, 1) := by decide +kernel
theorem dL_law_152 : decode cL_law 152 = .ok (.invokevirtual 22, 3) := by decide +kernel
theorem dL_law_155 : decode cL_law 155 = .ok (.if_icmp .eq 326, 3) := by decide +kernel
theorem dL_law_158 : decode cL_law 158 = .ok (.iconst 0, 1) := by decide +kernel
theorem dL_law_159 : decode cL_law 159 = .ok (.ireturn, 1) := by decide +kernel
theorem dL_law_160 : decode cL_law 160 = .ok (.aload_n 1, 1) := by decide +kernel
theorem dL_law_161 : decode cL_law 161 = .ok (.invokevirtual 23, 3) := by decide +kernel
theorem dL_law_164 : decode cL_law 164 = .ok (.aload_n 2, 1) := by decide +kernel
theorem dL_law_165 : decode cL_law 165 = .ok (.invokevirtual 26, 3) := by decide +kernel
theorem dL_law_168 : decode cL_law 168 = .ok (.if_icmp .eq 313, 3) := by decide +kernel
theorem dL_law_171 : decode cL_law 171 = .ok (.iconst 0, 1) := by decide +kernel
theorem dL_law_172 : decode cL_law 172 = .ok (.ireturn, 1) := by decide +kernel
theorem dL_law_173 : decode cL_law 173 = .ok (.aload_n 1, 1) := by decide +kernel
theorem dL_law_174 : decode cL_law 174 = .ok (.aload_n 0, 1) := by decide +kernel
theorem dL_law_175 : decode cL_law 175 = .ok (.iload_n 3, 1) := by decide +kernel
theorem dL_law_176 : decode cL_law 176 = .ok (.iconst 1, 1) := by decide +kernel
theorem dL_law_177 : decode cL_law 177 = .ok (.iadd, 1) := by decide +kernel
theorem dL_law_178 : decode cL_law 178 = .ok (.iaload, 1) := by decide +kernel
theorem dL_law_179 : decode cL_law 179 = .ok (.invokevirtual 27, 3) := by decide +kernel
theorem dL_law_182 : decode cL_law 182 = .ok (.aload_n 2, 1) := by decide +kernel
theorem dL_law_183 : decode cL_law 183 = .ok (.aload_n 0, 1) := by decide +kernel
theorem dL_law_184 : decode cL_law 184 = .ok (.iload_n 3, 1) := by decide +kernel
theorem dL_law_185 : decode cL_law 185 = .ok (.iconst 1, 1) := by decide +kernel
theorem dL_law_186 : decode cL_law 186 = .ok (.iadd, 1) := by decide +kernel
theorem dL_law_187 : decode cL_law 187 = .ok (.iaload, 1) := by decide +kernel
theorem dL_law_188 : decode cL_law 188 = .ok (.invokevirtual 30, 3) := by decide +kernel
theorem dL_law_191 : decode cL_law 191 = .ok (.if_icmp .eq 290, 3) := by decide +kernel
theorem dL_law_194 : decode cL_law 194 = .ok (.iconst 0, 1) := by decide +kernel
theorem dL_law_195 : decode cL_law 195 = .ok (.ireturn, 1) := by decide +kernel
theorem dL_law_196 : decode cL_law 196 = .ok (.aload_n 1, 1) := by decide +kernel
theorem dL_law_197 : decode cL_law 197 = .ok (.aload_n 0, 1) := by decide +kernel
theorem dL_law_198 : decode cL_law 198 = .ok (.iload_n 3, 1) := by decide +kernel
theorem dL_law_199 : decode cL_law 199 = .ok (.iconst 1, 1) := by decide +kernel
theorem dL_law_200 : decode cL_law 200 = .ok (.iadd, 1) := by decide +kernel
theorem dL_law_201 : decode cL_law 201 = .ok (.iaload, 1) := by decide +kernel
theorem dL_law_202 : decode cL_law 202 = .ok (.aload_n 0, 1) := by decide +kernel
theorem dL_law_203 : decode cL_law 203 = .ok (.iload_n 3, 1) := by decide +kernel
theorem dL_law_204 : decode cL_law 204 = .ok (.iconst 2, 1) := by decide +kernel
theorem dL_law_205 : decode cL_law 205 = .ok (.iadd, 1) := by decide +kernel
theorem dL_law_206 : decode cL_law 206 = .ok (.iaload, 1) := by decide +kernel
theorem dL_law_207 : decode cL_law 207 = .ok (.invokevirtual 31, 3) := by decide +kernel
theorem dL_law_210 : decode cL_law 210 = .ok (.aload_n 2, 1) := by decide +kernel
theorem dL_law_211 : decode cL_law 211 = .ok (.aload_n 0, 1) := by decide +kernel
theorem dL_law_212 : decode cL_law 212 = .ok (.iload_n 3, 1) := by decide +kernel
theorem dL_law_213 : decode cL_law 213 = .ok (.iconst 1, 1) := by decide +kernel
theorem dL_law_214 : decode cL_law 214 = .ok (.iadd, 1) := by decide +kernel
theorem dL_law_215 : decode cL_law 215 = .ok (.iaload, 1) := by decide +kernel
theorem dL_law_216 : decode cL_law 216 = .ok (.aload_n 0, 1) := by decide +kernel
theorem dL_law_217 : decode cL_law 217 = .ok (.iload_n 3, 1) := by decide +kernel
theorem dL_law_218 : decode cL_law 218 = .ok (.iconst 2, 1) := by decide +kernel
theorem dL_law_219 : decode cL_law 219 = .ok (.iadd, 1) := by decide +kernel
theorem dL_law_220 : decode cL_law 220 = .ok (.iaload, 1) := by decide +kernel
theorem dL_law_221 : decode cL_law 221 = .ok (.invokevirtual 35, 3) := by decide +kernel
theorem dL_law_224 : decode cL_law 224 = .ok (.if_icmp .eq 257, 3) := by decide +kernel
theorem dL_law_227 : decode cL_law 227 = .ok (.iconst 0, 1) := by decide +kernel
theorem dL_law_228 : decode cL_law 228 = .ok (.ireturn, 1) := by decide +kernel
theorem dL_law_229 : decode cL_law 229 = .ok (.aload_n 1, 1) := by decide +kernel
theorem dL_law_230 : decode cL_law 230 = .ok (.invokevirtual 36, 3) := by decide +kernel
theorem dL_law_233 : decode cL_law 233 = .ok (.aload_n 2, 1) := by decide +kernel
theorem dL_law_234 : decode cL_law 234 = .ok (.invokevirtual 39, 3) := by decide +kernel
theorem dL_law_237 : decode cL_law 237 = .ok (.if_icmp .eq 244, 3) := by decide +kernel
theorem dL_law_240 : decode cL_law 240 = .ok (.iconst 0, 1) := by decide +kernel
theorem dL_law_241 : decode cL_law 241 = .ok (.ireturn, 1) := by decide +kernel
theorem dL_law_242 : decode cL_law 242 = .ok (.aload_n 1, 1) := by decide +kernel
theorem dL_law_243 : decode cL_law 243 = .ok (.aload_n 0, 1) := by decide +kernel
theorem dL_law_244 : decode cL_law 244 = .ok (.iload_n 3, 1) := by decide +kernel
theorem dL_law_245 : decode cL_law 245 = .ok (.iconst 1, 1) := by decide +kernel
theorem dL_law_246 : decode cL_law 246 = .ok (.iadd, 1) := by decide +kernel
theorem dL_law_247 : decode cL_law 247 = .ok (.iaload, 1) := by decide +kernel
theorem dL_law_248 : decode cL_law 248 = .ok (.invokevirtual 40, 3) := by decide +kernel
theorem dL_law_251 : decode cL_law 251 = .ok (.aload_n 2, 1) := by decide +kernel
theorem dL_law_252 : decode cL_law 252 = .ok (.aload_n 0, 1) := by decide +kernel
theorem dL_law_253 : decode cL_law 253 = .ok (.iload_n 3, 1) := by decide +kernel
theorem dL_law_254 : decode cL_law 254 = .ok (.iconst 1, 1) := by decide +kernel
theorem dL_law_255 : decode cL_law 255 = .ok (.iadd, 1) := by decide +kernel
theorem dL_law_256 : decode cL_law 256 = .ok (.iaload, 1) := by decide +kernel
theorem dL_law_257 : decode cL_law 257 = .ok (.invokevirtual 43, 3) := by decide +kernel
theorem dL_law_260 : decode cL_law 260 = .ok (.if_icmp .eq 221, 3) := by decide +kernel
theorem dL_law_263 : decode cL_law 263 = .ok (.iconst 0, 1) := by decide +kernel
theorem dL_law_264 : decode cL_law 264 = .ok (.ireturn, 1) := by decide +kernel
theorem dL_law_265 : decode cL_law 265 = .ok (.aload_n 1, 1) := by decide +kernel
theorem dL_law_266 : decode cL_law 266 = .ok (.aload_n 0, 1) := by decide +kernel
theorem dL_law_267 : decode cL_law 267 = .ok (.iload_n 3, 1) := by decide +kernel
theorem dL_law_268 : decode cL_law 268 = .ok (.iconst 1, 1) := by decide +kernel
theorem dL_law_269 : decode cL_law 269 = .ok (.iadd, 1) := by decide +kernel
theorem dL_law_270 : decode cL_law 270 = .ok (.iaload, 1) := by decide +kernel
theorem dL_law_271 : decode cL_law 271 = .ok (.invokevirtual 44, 3) := by decide +kernel
theorem dL_law_274 : decode cL_law 274 = .ok (.aload_n 2, 1) := by decide +kernel
theorem dL_law_275 : decode cL_law 275 = .ok (.aload_n 0, 1) := by decide +kernel
theorem dL_law_276 : decode cL_law 276 = .ok (.iload_n 3, 1) := by decide +kernel
theorem dL_law_277 : decode cL_law 277 = .ok (.iconst 1, 1) := by decide +kernel
theorem dL_law_278 : decode cL_law 278 = .ok (.iadd, 1) := by decide +kernel
theorem dL_law_279 : decode cL_law 279 = .ok (.iaload, 1) := by decide +kernel
theorem dL_law_280 : decode cL_law 280 = .ok (.invokevirtual 47, 3) := by decide +kernel
theorem dL_law_283 : decode cL_law 283 = .ok (.if_icmp .eq 198, 3) := by decide +kernel
theorem dL_law_286 : decode cL_law 286 = .ok (.iconst 0, 1) := by decide +kernel
theorem dL_law_287 : decode cL_law 287 = .ok (.ireturn, 1) := by decide +kernel
theorem dL_law_288 : decode cL_law 288 = .ok (.aload_n 1, 1) := by decide +kernel
theorem dL_law_289 : decode cL_law 289 = .ok (.invokevirtual 48, 3) := by decide +kernel
theorem dL_law_292 : decode cL_law 292 = .ok (.aload_n 2, 1) := by decide +kernel
theorem dL_law_293 : decode cL_law 293 = .ok (.invokevirtual 51, 3) := by decide +kernel
theorem dL_law_296 : decode cL_law 296 = .ok (.if_icmp .eq 185, 3) := by decide +kernel
theorem dL_law_299 : decode cL_law 299 = .ok (.iconst 0, 1) := by decide +kernel
theorem dL_law_300 : decode cL_law 300 = .ok (.ireturn, 1) := by decide +kernel
theorem dL_law_301 : decode cL_law 301 = .ok (.aload_n 1, 1) := by decide +kernel
theorem dL_law_302 : decode cL_law 302 = .ok (.aload_n 0, 1) := by decide +kernel
theorem dL_law_303 : decode cL_law 303 = .ok (.iload_n 3, 1) := by decide +kernel
theorem dL_law_304 : decode cL_law 304 = .ok (.iconst 1, 1) := by decide +kernel
theorem dL_law_305 : decode cL_law 305 = .ok (.iadd, 1) := by decide +kernel
theorem dL_law_306 : decode cL_law 306 = .ok (.iaload, 1) := by decide +kernel
theorem dL_law_307 : decode cL_law 307 = .ok (.invokevirtual 52, 3) := by decide +kernel
theorem dL_law_310 : decode cL_law 310 = .ok (.aload_n 2, 1) := by decide +kernel
theorem dL_law_311 : decode cL_law 311 = .ok (.aload_n 0, 1) := by decide +kernel
theorem dL_law_312 : decode cL_law 312 = .ok (.iload_n 3, 1) := by decide +kernel
theorem dL_law_313 : decode cL_law 313 = .ok (.iconst 1, 1) := by decide +kernel
theorem dL_law_314 : decode cL_law 314 = .ok (.iadd, 1) := by decide +kernel
theorem dL_law_315 : decode cL_law 315 = .ok (.iaload, 1) := by decide +kernel
theorem dL_law_316 : decode cL_law 316 = .ok (.invokevirtual 55, 3) := by decide +kernel
theorem dL_law_319 : decode cL_law 319 = .ok (.if_icmp .eq 162, 3) := by decide +kernel
theorem dL_law_322 : decode cL_law 322 = .ok (.iconst 0, 1) := by decide +kernel
theorem dL_law_323 : decode cL_law 323 = .ok (.ireturn, 1) := by decide +kernel
theorem dL_law_324 : decode cL_law 324 = .ok (.aload_n 1, 1) := by decide +kernel
theorem dL_law_325 : decode cL_law 325 = .ok (.invokevirtual 56, 3) := by decide +kernel
theorem dL_law_328 : decode cL_law 328 = .ok (.aload_n 2, 1) := by decide +kernel
theorem dL_law_329 : decode cL_law 329 = .ok (.invokevirtual 59, 3) := by decide +kernel
theorem dL_law_332 : decode cL_law 332 = .ok (.if_icmp .eq 149, 3) := by decide +kernel
theorem dL_law_335 : decode cL_law 335 = .ok (.iconst 0, 1) := by decide +kernel
theorem dL_law_336 : decode cL_law 336 = .ok (.ireturn, 1) := by decide +kernel
theorem dL_law_337 : decode cL_law 337 = .ok (.aload_n 1, 1) := by decide +kernel
theorem dL_law_338 : decode cL_law 338 = .ok (.aload_n 0, 1) := by decide +kernel
theorem dL_law_339 : decode cL_law 339 = .ok (.iload_n 3, 1) := by decide +kernel
theorem dL_law_340 : decode cL_law 340 = .ok (.iconst 1, 1) := by decide +kernel
theorem dL_law_341 : decode cL_law 341 = .ok (.iadd, 1) := by decide +kernel
theorem dL_law_342 : decode cL_law 342 = .ok (.iaload, 1) := by decide +kernel
theorem dL_law_343 : decode cL_law 343 = .ok (.invokevirtual 60, 3) := by decide +kernel
theorem dL_law_346 : decode cL_law 346 = .ok (.aload_n 2, 1) := by decide +kernel
theorem dL_law_347 : decode cL_law 347 = .ok (.aload_n 0, 1) := by decide +kernel
theorem dL_law_348 : decode cL_law 348 = .ok (.iload_n 3, 1) := by decide +kernel
theorem dL_law_349 : decode cL_law 349 = .ok (.iconst 1, 1) := by decide +kernel
theorem dL_law_350 : decode cL_law 350 = .ok (.iadd, 1) := by decide +kernel
theorem dL_law_351 : decode cL_law 351 = .ok (.iaload, 1) := by decide +kernel
theorem dL_law_352 : decode cL_law 352 = .ok (.invokevirtual 63, 3) := by decide +kernel
theorem dL_law_355 : decode cL_law 355 = .ok (.if_icmp .eq 126, 3) := by decide +kernel
theorem dL_law_358 : decode cL_law 358 = .ok (.iconst 0, 1) := by decide +kernel
theorem dL_law_359 : decode cL_law 359 = .ok (.ireturn, 1) := by decide +kernel
theorem dL_law_360 : decode cL_law 360 = .ok (.aload_n 1, 1) := by decide +kernel
theorem dL_law_361 : decode cL_law 361 = .ok (.invokevirtual 64, 3) := by decide +kernel
theorem dL_law_364 : decode cL_law 364 = .ok (.aload_n 2, 1) := by decide +kernel
theorem dL_law_365 : decode cL_law 365 = .ok (.invokevirtual 67, 3) := by decide +kernel
theorem dL_law_368 : decode cL_law 368 = .ok (.if_icmp .eq 113, 3) := by decide +kernel
theorem dL_law_371 : decode cL_law 371 = .ok (.iconst 0, 1) := by decide +kernel
theorem dL_law_372 : decode cL_law 372 = .ok (.ireturn, 1) := by decide +kernel
theorem dL_law_373 : decode cL_law 373 = .ok (.aload_n 1, 1) := by decide +kernel
theorem dL_law_374 : decode cL_law 374 = .ok (.invokevirtual 68, 3) := by decide +kernel
theorem dL_law_377 : decode cL_law 377 = .ok (.aload_n 2, 1) := by decide +kernel
theorem dL_law_378 : decode cL_law 378 = .ok (.invokevirtual 71, 3) := by decide +kernel
theorem dL_law_381 : decode cL_law 381 = .ok (.if_icmp .eq 100, 3) := by decide +kernel
theorem dL_law_384 : decode cL_law 384 = .ok (.iconst 0, 1) := by decide +kernel
theorem dL_law_385 : decode cL_law 385 = .ok (.ireturn, 1) := by decide +kernel
theorem dL_law_386 : decode cL_law 386 = .ok (.aload_n 1, 1) := by decide +kernel
theorem dL_law_387 : decode cL_law 387 = .ok (.invokevirtual 72, 3) := by decide +kernel
theorem dL_law_390 : decode cL_law 390 = .ok (.aload_n 2, 1) := by decide +kernel
theorem dL_law_391 : decode cL_law 391 = .ok (.invokevirtual 75, 3) := by decide +kernel
theorem dL_law_394 : decode cL_law 394 = .ok (.if_icmp .eq 87, 3) := by decide +kernel
theorem dL_law_397 : decode cL_law 397 = .ok (.iconst 0, 1) := by decide +kernel
theorem dL_law_398 : decode cL_law 398 = .ok (.ireturn, 1) := by decide +kernel
theorem dL_law_399 : decode cL_law 399 = .ok (.aload_n 1, 1) := by decide +kernel
theorem dL_law_400 : decode cL_law 400 = .ok (.aload_n 0, 1) := by decide +kernel
theorem dL_law_401 : decode cL_law 401 = .ok (.iload_n 3, 1) := by decide +kernel
theorem dL_law_402 : decode cL_law 402 = .ok (.iconst 1, 1) := by decide +kernel
theorem dL_law_403 : decode cL_law 403 = .ok (.iadd, 1) := by decide +kernel
theorem dL_law_404 : decode cL_law 404 = .ok (.iaload, 1) := by decide +kernel
theorem dL_law_405 : decode cL_law 405 = .ok (.invokevirtual 76, 3) := by decide +kernel
theorem dL_law_408 : decode cL_law 408 = .ok (.aload_n 2, 1) := by decide +kernel
theorem dL_law_409 : decode cL_law 409 = .ok (.aload_n 0, 1) := by decide +kernel
theorem dL_law_410 : decode cL_law 410 = .ok (.iload_n 3, 1) := by decide +kernel
theorem dL_law_411 : decode cL_law 411 = .ok (.iconst 1, 1) := by decide +kernel
theorem dL_law_412 : decode cL_law 412 = .ok (.iadd, 1) := by decide +kernel
theorem dL_law_413 : decode cL_law 413 = .ok (.iaload, 1) := by decide +kernel
theorem dL_law_414 : decode cL_law 414 = .ok (.invokevirtual 79, 3) := by decide +kernel
theorem dL_law_417 : decode cL_law 417 = .ok (.if_icmp .eq 64, 3) := by decide +kernel
theorem dL_law_420 : decode cL_law 420 = .ok (.iconst 0, 1) := by decide +kernel
theorem dL_law_421 : decode cL_law 421 = .ok (.ireturn, 1) := by decide +kernel
theorem dL_law_422 : decode cL_law 422 = .ok (.aload_n 1, 1) := by decide +kernel
theorem dL_law_423 : decode cL_law 423 = .ok (.invokevirtual 80, 3) := by decide +kernel
theorem dL_law_426 : decode cL_law 426 = .ok (.aload_n 2, 1) := by decide +kernel
theorem dL_law_427 : decode cL_law 427 = .ok (.invokevirtual 83, 3) := by decide +kernel
theorem dL_law_430 : decode cL_law 430 = .ok (.if_icmp .eq 51, 3) := by decide +kernel
theorem dL_law_433 : decode cL_law 433 = .ok (.iconst 0, 1) := by decide +kernel
theorem dL_law_434 : decode cL_law 434 = .ok (.ireturn, 1) := by decide +kernel
theorem dL_law_435 : decode cL_law 435 = .ok (.aload_n 1, 1) := by decide +kernel
theorem dL_law_436 : decode cL_law 436 = .ok (.aload_n 0, 1) := by decide +kernel
theorem dL_law_437 : decode cL_law 437 = .ok (.iload_n 3, 1) := by decide +kernel
theorem dL_law_438 : decode cL_law 438 = .ok (.iconst 1, 1) := by decide +kernel
theorem dL_law_439 : decode cL_law 439 = .ok (.iadd, 1) := by decide +kernel
theorem dL_law_440 : decode cL_law 440 = .ok (.iaload, 1) := by decide +kernel
theorem dL_law_441 : decode cL_law 441 = .ok (.invokevirtual 84, 3) := by decide +kernel
theorem dL_law_444 : decode cL_law 444 = .ok (.aload_n 2, 1) := by decide +kernel
theorem dL_law_445 : decode cL_law 445 = .ok (.aload_n 0, 1) := by decide +kernel
theorem dL_law_446 : decode cL_law 446 = .ok (.iload_n 3, 1) := by decide +kernel
theorem dL_law_447 : decode cL_law 447 = .ok (.iconst 1, 1) := by decide +kernel
theorem dL_law_448 : decode cL_law 448 = .ok (.iadd, 1) := by decide +kernel
theorem dL_law_449 : decode cL_law 449 = .ok (.iaload, 1) := by decide +kernel
theorem dL_law_450 : decode cL_law 450 = .ok (.invokevirtual 87, 3) := by decide +kernel
theorem dL_law_453 : decode cL_law 453 = .ok (.if_icmp .eq 28, 3) := by decide +kernel
theorem dL_law_456 : decode cL_law 456 = .ok (.iconst 0, 1) := by decide +kernel
theorem dL_law_457 : decode cL_law 457 = .ok (.ireturn, 1) := by decide +kernel
theorem dL_law_458 : decode cL_law 458 = .ok (.aload_n 1, 1) := by decide +kernel
theorem dL_law_459 : decode cL_law 459 = .ok (.aload_n 0, 1) := by decide +kernel
theorem dL_law_460 : decode cL_law 460 = .ok (.iload_n 3, 1) := by decide +kernel
theorem dL_law_461 : decode cL_law 461 = .ok (.iconst 1, 1) := by decide +kernel
theorem dL_law_462 : decode cL_law 462 = .ok (.iadd, 1) := by decide +kernel
theorem dL_law_463 : decode cL_law 463 = .ok (.iaload, 1) := by decide +kernel
theorem dL_law_464 : decode cL_law 464 = .ok (.invokevirtual 88, 3) := by decide +kernel
theorem dL_law_467 : decode cL_law 467 = .ok (.aload_n 2, 1) := by decide +kernel
theorem dL_law_468 : decode cL_law 468 = .ok (.aload_n 0, 1) := by decide +kernel
theorem dL_law_469 : decode cL_law 469 = .ok (.iload_n 3, 1) := by decide +kernel
theorem dL_law_470 : decode cL_law 470 = .ok (.iconst 1, 1) := by decide +kernel
theorem dL_law_471 : decode cL_law 471 = .ok (.iadd, 1) := by decide +kernel
theorem dL_law_472 : decode cL_law 472 = .ok (.iaload, 1) := by decide +kernel
theorem dL_law_473 : decode cL_law 473 = .ok (.invokevirtual 91, 3) := by decide +kernel
theorem dL_law_476 : decode cL_law 476 = .ok (.if_icmp .eq 5, 3) := by decide +kernel
theorem dL_law_479 : decode cL_law 479 = .ok (.iconst 0, 1) := by decide +kernel
theorem dL_law_480 : decode cL_law 480 = .ok (.ireturn, 1) := by decide +kernel
theorem dL_law_481 : decode cL_law 481 = .ok (.iinc 3 3, 3) := by decide +kernel
theorem dL_law_484 : decode cL_law 484 = .ok (.goto (-466), 3) := by decide +kernel
theorem dL_law_487 : decode cL_law 487 = .ok (.iconst 1, 1) := by decide +kernel
theorem dL_law_488 : decode cL_law 488 = .ok (.ireturn, 1) := by decide +kernel
theorem q25 : (Jvm.Cond.initialized "ConflictSetsLaw") ∈ lw_all := lw_g (lw_at lw_m1 0 rfl) rfl
set_option maxRecDepth 100000
theorem q28 : (Jvm.Cond.classLink "ConflictSetsLaw" (7 : Nat) "ConflictSets") ∈ lw_all := lw_g (lw_at lw_m1 3 rfl) rfl
theorem q30 : (Jvm.Cond.methodLink "ConflictSetsLaw" (9 : Nat) ({ cls := "ConflictSets", name := "<init>", desc := "()V" } : Jvm.MethodName)) ∈ lw_all := lw_g (lw_at lw_m1 5 rfl) rfl
theorem q71 : (Jvm.Cond.methodLink "ConflictSetsLaw" (13 : Nat) ({ cls := "ConflictSets", name := "literal", desc := "(I)I" } : Jvm.MethodName)) ∈ lw_all := lw_g (lw_at lw_m1 46 rfl) rfl
theorem q75 : (Jvm.Cond.methodLink "ConflictSetsLaw" (18 : Nat) ({ cls := "ConflictSets", name := "add", desc := "()I" } : Jvm.MethodName)) ∈ lw_all := lw_g (lw_at lw_m1 50 rfl) rfl
theorem q82 : (Jvm.Cond.methodLink "ConflictSetsLaw" (23 : Nat) ({ cls := "ConflictSets", name := "clear", desc := "()I" } : Jvm.MethodName)) ∈ lw_all := lw_g (lw_at lw_m1 57 rfl) rfl
theorem q86 : (Jvm.Cond.methodLink "ConflictSetsLaw" (27 : Nat) ({ cls := "ConflictSets", name := "remove", desc := "(I)I" } : Jvm.MethodName)) ∈ lw_all := lw_g (lw_at lw_m1 61 rfl) rfl
theorem q94 : (Jvm.Cond.methodLink "ConflictSetsLaw" (31 : Nat) ({ cls := "ConflictSets", name := "price", desc := "(II)I" } : Jvm.MethodName)) ∈ lw_all := lw_g (lw_at lw_m1 69 rfl) rfl
theorem q98 : (Jvm.Cond.methodLink "ConflictSetsLaw" (36 : Nat) ({ cls := "ConflictSets", name := "conditions", desc := "()I" } : Jvm.MethodName)) ∈ lw_all := lw_g (lw_at lw_m1 73 rfl) rfl
theorem q102 : (Jvm.Cond.methodLink "ConflictSetsLaw" (40 : Nat) ({ cls := "ConflictSets", name := "possible", desc := "(I)I" } : Jvm.MethodName)) ∈ lw_all := lw_g (lw_at lw_m1 77 rfl) rfl
theorem q114 : (Jvm.Cond.methodLink "ConflictSetsLaw" (44 : Nat) ({ cls := "ConflictSets", name := "model", desc := "(I)I" } : Jvm.MethodName)) ∈ lw_all := lw_g (lw_at lw_m1 89 rfl) rfl
theorem q118 : (Jvm.Cond.methodLink "ConflictSetsLaw" (48 : Nat) ({ cls := "ConflictSets", name := "kernels", desc := "()I" } : Jvm.MethodName)) ∈ lw_all := lw_g (lw_at lw_m1 93 rfl) rfl
theorem q158 : (Jvm.Cond.methodLink "ConflictSetsLaw" (52 : Nat) ({ cls := "ConflictSets", name := "kernel", desc := "(I)I" } : Jvm.MethodName)) ∈ lw_all := lw_g (lw_at lw_m1 133 rfl) rfl
theorem q162 : (Jvm.Cond.methodLink "ConflictSetsLaw" (56 : Nat) ({ cls := "ConflictSets", name := "corrections", desc := "()I" } : Jvm.MethodName)) ∈ lw_all := lw_g (lw_at lw_m1 137 rfl) rfl
theorem q166 : (Jvm.Cond.methodLink "ConflictSetsLaw" (60 : Nat) ({ cls := "ConflictSets", name := "correction", desc := "(I)I" } : Jvm.MethodName)) ∈ lw_all := lw_g (lw_at lw_m1 141 rfl) rfl
theorem q170 : (Jvm.Cond.methodLink "ConflictSetsLaw" (64 : Nat) ({ cls := "ConflictSets", name := "cheapest", desc := "()I" } : Jvm.MethodName)) ∈ lw_all := lw_g (lw_at lw_m1 145 rfl) rfl
theorem q182 : (Jvm.Cond.methodLink "ConflictSetsLaw" (68 : Nat) ({ cls := "ConflictSets", name := "cheapestSet", desc := "()I" } : Jvm.MethodName)) ∈ lw_all := lw_g (lw_at lw_m1 157 rfl) rfl
theorem q183 : (Jvm.Cond.methodLink "ConflictSetsLaw" (72 : Nat) ({ cls := "ConflictSets", name := "smallest", desc := "()I" } : Jvm.MethodName)) ∈ lw_all := lw_g (lw_at lw_m1 158 rfl) rfl
theorem q190 : (Jvm.Cond.methodLink "ConflictSetsLaw" (76 : Nat) ({ cls := "ConflictSets", name := "blame", desc := "(I)I" } : Jvm.MethodName)) ∈ lw_all := lw_g (lw_at lw_m1 165 rfl) rfl
theorem q194 : (Jvm.Cond.methodLink "ConflictSetsLaw" (80 : Nat) ({ cls := "ConflictSets", name := "core", desc := "()I" } : Jvm.MethodName)) ∈ lw_all := lw_g (lw_at lw_m1 169 rfl) rfl
theorem q198 : (Jvm.Cond.methodLink "ConflictSetsLaw" (84 : Nat) ({ cls := "ConflictSets", name := "sort", desc := "(I)I" } : Jvm.MethodName)) ∈ lw_all := lw_g (lw_at lw_m1 173 rfl) rfl
theorem q202 : (Jvm.Cond.methodLink "ConflictSetsLaw" (88 : Nat) ({ cls := "ConflictSets", name := "width", desc := "(I)I" } : Jvm.MethodName)) ∈ lw_all := lw_g (lw_at lw_m1 177 rfl) rfl
theorem q206 : (Jvm.Cond.classLink "ConflictSetsLaw" (10 : Nat) "ConflictSetsModel") ∈ lw_all := lw_g (lw_at lw_m1 181 rfl) rfl
theorem q208 : (Jvm.Cond.methodLink "ConflictSetsLaw" (12 : Nat) ({ cls := "ConflictSetsModel", name := "<init>", desc := "()V" } : Jvm.MethodName)) ∈ lw_all := lw_g (lw_at lw_m1 183 rfl) rfl
theorem q229 : (Jvm.Cond.methodLink "ConflictSetsLaw" (17 : Nat) ({ cls := "ConflictSetsModel", name := "literal", desc := "(I)I" } : Jvm.MethodName)) ∈ lw_all := lw_g (lw_at lw_m1 204 rfl) rfl
theorem q237 : (Jvm.Cond.methodLink "ConflictSetsLaw" (22 : Nat) ({ cls := "ConflictSetsModel", name := "add", desc := "()I" } : Jvm.MethodName)) ∈ lw_all := lw_g (lw_at lw_m1 212 rfl) rfl
theorem q241 : (Jvm.Cond.methodLink "ConflictSetsLaw" (26 : Nat) ({ cls := "ConflictSetsModel", name := "clear", desc := "()I" } : Jvm.MethodName)) ∈ lw_all := lw_g (lw_at lw_m1 216 rfl) rfl
theorem q245 : (Jvm.Cond.methodLink "ConflictSetsLaw" (30 : Nat) ({ cls := "ConflictSetsModel", name := "remove", desc := "(I)I" } : Jvm.MethodName)) ∈ lw_all := lw_g (lw_at lw_m1 220 rfl) rfl
theorem q253 : (Jvm.Cond.methodLink "ConflictSetsLaw" (35 : Nat) ({ cls := "ConflictSetsModel", name := "price", desc := "(II)I" } : Jvm.MethodName)) ∈ lw_all := lw_g (lw_at lw_m1 228 rfl) rfl
theorem q257 : (Jvm.Cond.methodLink "ConflictSetsLaw" (39 : Nat) ({ cls := "ConflictSetsModel", name := "conditions", desc := "()I" } : Jvm.MethodName)) ∈ lw_all := lw_g (lw_at lw_m1 232 rfl) rfl
theorem q261 : (Jvm.Cond.methodLink "ConflictSetsLaw" (43 : Nat) ({ cls := "ConflictSetsModel", name := "possible", desc := "(I)I" } : Jvm.MethodName)) ∈ lw_all := lw_g (lw_at lw_m1 236 rfl) rfl
theorem q281 : (Jvm.Cond.methodLink "ConflictSetsLaw" (47 : Nat) ({ cls := "ConflictSetsModel", name := "model", desc := "(I)I" } : Jvm.MethodName)) ∈ lw_all := lw_g (lw_at lw_m2 16 rfl) rfl
theorem q285 : (Jvm.Cond.methodLink "ConflictSetsLaw" (51 : Nat) ({ cls := "ConflictSetsModel", name := "kernels", desc := "()I" } : Jvm.MethodName)) ∈ lw_all := lw_g (lw_at lw_m2 20 rfl) rfl
theorem q305 : (Jvm.Cond.methodLink "ConflictSetsLaw" (55 : Nat) ({ cls := "ConflictSetsModel", name := "kernel", desc := "(I)I" } : Jvm.MethodName)) ∈ lw_all := lw_g (lw_at lw_m2 40 rfl) rfl
theorem q309 : (Jvm.Cond.methodLink "ConflictSetsLaw" (59 : Nat) ({ cls := "ConflictSetsModel", name := "corrections", desc := "()I" } : Jvm.MethodName)) ∈ lw_all := lw_g (lw_at lw_m2 44 rfl) rfl
theorem q313 : (Jvm.Cond.methodLink "ConflictSetsLaw" (63 : Nat) ({ cls := "ConflictSetsModel", name := "correction", desc := "(I)I" } : Jvm.MethodName)) ∈ lw_all := lw_g (lw_at lw_m2 48 rfl) rfl
theorem q317 : (Jvm.Cond.methodLink "ConflictSetsLaw" (67 : Nat) ({ cls := "ConflictSetsModel", name := "cheapest", desc := "()I" } : Jvm.MethodName)) ∈ lw_all := lw_g (lw_at lw_m2 52 rfl) rfl
theorem q329 : (Jvm.Cond.methodLink "ConflictSetsLaw" (71 : Nat) ({ cls := "ConflictSetsModel", name := "cheapestSet", desc := "()I" } : Jvm.MethodName)) ∈ lw_all := lw_g (lw_at lw_m2 64 rfl) rfl
theorem q333 : (Jvm.Cond.methodLink "ConflictSetsLaw" (75 : Nat) ({ cls := "ConflictSetsModel", name := "smallest", desc := "()I" } : Jvm.MethodName)) ∈ lw_all := lw_g (lw_at lw_m2 68 rfl) rfl
theorem q337 : (Jvm.Cond.methodLink "ConflictSetsLaw" (79 : Nat) ({ cls := "ConflictSetsModel", name := "blame", desc := "(I)I" } : Jvm.MethodName)) ∈ lw_all := lw_g (lw_at lw_m2 72 rfl) rfl
theorem q341 : (Jvm.Cond.methodLink "ConflictSetsLaw" (83 : Nat) ({ cls := "ConflictSetsModel", name := "core", desc := "()I" } : Jvm.MethodName)) ∈ lw_all := lw_g (lw_at lw_m2 76 rfl) rfl
theorem q345 : (Jvm.Cond.methodLink "ConflictSetsLaw" (87 : Nat) ({ cls := "ConflictSetsModel", name := "sort", desc := "(I)I" } : Jvm.MethodName)) ∈ lw_all := lw_g (lw_at lw_m2 80 rfl) rfl
theorem q349 : (Jvm.Cond.methodLink "ConflictSetsLaw" (91 : Nat) ({ cls := "ConflictSetsModel", name := "width", desc := "(I)I" } : Jvm.MethodName)) ∈ lw_all := lw_g (lw_at lw_m2 84 rfl) rfl
theorem q70 : (Jvm.Cond.arrayClass Jvm.ClassFile.FieldType.int) ∈ lw_all := lw_g (lw_at lw_m1 45 rfl) rfl
set_option maxRecDepth 100000
theorem q228 : (Jvm.Cond.arrayClass Jvm.ClassFile.FieldType.boolean) ∈ lw_all := lw_g (lw_at lw_m1 203 rfl) rfl
end
section
/-! the two objects' worlds, entry and call rows -/
set_option maxRecDepth 100000
abbrev vwCl : List vw_C := [(RX0, TX0, 11), (RX1, TX1, 5)]
abbrev xw (q : Nat → Nat) (d : Nat → ClassId) (w pr dr kl fl wt : Nat → Int32) (cn ds kc fc sv : Int32) : va_W :=
  [(q 0, .inr (0, [.ref (q 1), .ref (q 2), .ref (q 3), .ref (q 4), .ref (q 5), .ref (q 6), .int cn, .int ds, .int kc, .int fc, .int sv])),
   (q 1, .inl (d 1, 9, .inl w)), (q 2, .inl (d 2, 9, .inl pr)), (q 3, .inl (d 3, 4, .inl dr)), (q 4, .inl (d 4, 126, .inl kl)), (q 5, .inl (d 5, 126, .inl fl)), (q 6, .inl (d 6, 16, .inl wt))]
abbrev xt (d : Nat → ClassId) : List (ClassId × FieldType) := [(d 1, .int), (d 2, .int), (d 3, .int), (d 4, .int), (d 5, .int), (d 6, .int)]
abbrev mw (q : Nat → Nat) (d : Nat → ClassId) (lt pm ab : Nat → Int32) (dm cm : Int32) : va_W :=
  [(q 0, .inr (1, [.int dm, .int cm, .ref (q 1), .ref (q 2), .ref (q 3)])),
   (q 1, .inl (d 1, 9, .inl lt)), (q 2, .inl (d 2, 9, .inl pm)), (q 3, .inl (d 3, 512, .inl ab))]
abbrev mt (d : Nat → ClassId) : List (ClassId × FieldType) := [(d 1, .int), (d 2, .int), (d 3, .boolean)]
/-- the addresses of an object with n - 1 arrays -/
def gA (n : Nat) (q : Nat → Nat) : Nat → Prop := fun a => ∃ k, k < n ∧ a = q k
def gJ (n : Nat) (q : Nat → Nat) : Prop := ∀ i j, i < n → j < n → q i = q j → i = j
theorem x_addr {q : Nat → Nat} {d : Nat → ClassId} {w pr dr kl fl wt : Nat → Int32} {cn ds kc fc sv : Int32} {k : Nat} {x : Nat × va_E} (h : (xw q d w pr dr kl fl wt cn ds kc fc sv)[k]? = some x) : k < 7 ∧ x.1 = q k := by
  match k, h with
  | 0, h => cases h; exact ⟨by decide, rfl⟩
  | 1, h => cases h; exact ⟨by decide, rfl⟩
  | 2, h => cases h; exact ⟨by decide, rfl⟩
  | 3, h => cases h; exact ⟨by decide, rfl⟩
  | 4, h => cases h; exact ⟨by decide, rfl⟩
  | 5, h => cases h; exact ⟨by decide, rfl⟩
  | 6, h => cases h; exact ⟨by decide, rfl⟩
  | k + 7, h => simp at h
theorem x_D {q : Nat → Nat} {d : Nat → ClassId} {w pr dr kl fl wt : Nat → Int32} {cn ds kc fc sv : Int32} (hq : gJ 7 q) : va_D (gA 7 q) (xw q d w pr dr kl fl wt cn ds kc fc sv) := by
  refine ⟨fun i j x y hi hj e => ?_, fun k x hk => ?_⟩
  · obtain ⟨a1, a2⟩ := x_addr hi
    obtain ⟨b1, b2⟩ := x_addr hj
    exact hq i j a1 b1 (by rw [← a2, ← b2]; exact e)
  · obtain ⟨a1, a2⟩ := x_addr hk
    exact ⟨k, a1, a2⟩
theorem m_addr {q : Nat → Nat} {d : Nat → ClassId} {lt pm ab : Nat → Int32} {dm cm : Int32} {k : Nat} {x : Nat × va_E} (h : (mw q d lt pm ab dm cm)[k]? = some x) : k < 4 ∧ x.1 = q k := by
  match k, h with
  | 0, h => cases h; exact ⟨by decide, rfl⟩
  | 1, h => cases h; exact ⟨by decide, rfl⟩
  | 2, h => cases h; exact ⟨by decide, rfl⟩
  | 3, h => cases h; exact ⟨by decide, rfl⟩
  | k + 4, h => simp at h
theorem m_D {q : Nat → Nat} {d : Nat → ClassId} {lt pm ab : Nat → Int32} {dm cm : Int32} (hq : gJ 4 q) : va_D (gA 4 q) (mw q d lt pm ab dm cm) := by
  refine ⟨fun i j x y hi hj e => ?_, fun k x hk => ?_⟩
  · obtain ⟨a1, a2⟩ := m_addr hi
    obtain ⟨b1, b2⟩ := m_addr hj
    exact hq i j a1 b1 (by rw [← a2, ← b2]; exact e)
  · obtain ⟨a1, a2⟩ := m_addr hk
    exact ⟨k, a1, a2⟩
/-- a method's start: the arguments, the object's world, the tables -/
def gPc (D : va_G) (ws : va_W) (tys : List (ClassId × FieldType)) (As : List Value) : Array Value → State → Prop := va_Pc As (fun U => va_P D vwCl ws U.heap ∧ va_K D vwCl tys U)
theorem g_blind {D : va_G} {ws : va_W} {tys : List (ClassId × FieldType)} {As : List Value} : FrameBlind (gPc D ws tys As) := fun a U g mk h => ⟨h.1, h.2.1, va_K.moved (u := U) (U := U.calling g mk a) (Vm.Alike.refl U.vm) h.2.2⟩
theorem g_preV {s : State} {H : Heap} {D : va_G} {ws : va_W} {tys : List (ClassId × FieldType)} {As : List Value} {ci a : Nat} {qc : vw_C} {fs : List Value} (hK : va_K D vwCl tys s) (hP : va_P D vwCl ws H) (hc : vwCl[ci]? = some qc) (he : ws[0]? = some (a, .inr (ci, fs))) : PreV s H qc.1 a (gPc D ws tys (.ref a :: As)) As :=
  ⟨g_blind, va_recv hK hP hc he, fun U hU hW => ⟨rfl, by rw [hU]; exact hP, va_K.moved hW.alike hK⟩⟩
theorem x_preV {s : State} {H : Heap} {D : va_G} {q : Nat → Nat} {d : Nat → ClassId} {w pr dr kl fl wt : Nat → Int32} {cn ds kc fc sv : Int32} (As : List Value) (hK : va_K D vwCl (xt d) s) (hP : va_P D vwCl (xw q d w pr dr kl fl wt cn ds kc fc sv) H) : PreV s H RX0 (q 0) (gPc D (xw q d w pr dr kl fl wt cn ds kc fc sv) (xt d) (.ref (q 0) :: As)) As := g_preV (ci := 0) hK hP rfl rfl
theorem m_preV {s : State} {H : Heap} {D : va_G} {q : Nat → Nat} {d : Nat → ClassId} {lt pm ab : Nat → Int32} {dm cm : Int32} (As : List Value) (hK : va_K D vwCl (mt d) s) (hP : va_P D vwCl (mw q d lt pm ab dm cm) H) : PreV s H RX1 (q 0) (gPc D (mw q d lt pm ab dm cm) (mt d) (.ref (q 0) :: As)) As := g_preV (ci := 1) hK hP rfl rfl
def sPc (As : List Value) : Array Value → State → Prop := va_Pc As (fun _ => True)
theorem s_pre {s : State} {H : Heap} {As : List Value} : PreS s H (sPc As) As := ⟨fun _ _ _ _ h => h, fun _ _ _ => ⟨rfl, trivial⟩⟩
/-- a method's body from its entry -/
theorem g_met {l : Launch} {y : MethodName} {cc : ByteArray} {n : Nat} {ret : Option FieldType} {rm : Room} {D : va_G} {ws : va_W} {tys : List (ClassId × FieldType)} {As : List Value} {Qc : Array Value → State → Outcome → State → Prop} {mc ms : Nat} {A : Nat → Prop} (hy : plainName y.cls = true) (hn : (lg_sl As).length ≤ n)
    (body : ∀ (p : Program) (e : Env) (s : State) (m : MethodId) (below : List Frame) (meth : Method) (cd : Code), p.tables.exec = Jvm.exec → cd.code = cc → meth.sig.returnType = ret → cd.maxLocals = n → s.vm.findClass y.cls = some m.cls → (∀ w ∈ lw_all, w.before As.toArray s = true) → meth.locks = false → meth.name = y.name → va_P D vwCl ws s.heap → va_K D vwCl tys s → ∀ ls : Array Slot, lv_has ls n (lv_args 0 As) →
      W p l e rm s m As.toArray below meth cd s.heap [] 0 0 (MQ below Qc As.toArray s mc ms A) (F0 m 0 ls [])) : Met l y (ws_ y cc n ret) rm (gPc D ws tys As) Qc mc ms A := by
  refine Met.ofW (cc := cc) (maxL := n) (ret := ret) hy rfl ?_
  intro p e s m args below meth cd s₁ B hml hv
  obtain ⟨rfl, hP, hK⟩ := hv
  have hts := atoms_spec (ws := ws_ y cc n ret) B.pre
  rw [lg_entry_eq]
  exact body p e s m below meth cd B.exec B.bytes B.returns hml (findClass_of_methodNamed B.named) (fun w h => hts w (List.mem_cons_of_mem _ h)) B.notSynchronized (name_of_methodNamed B.named B.method).1 hP hK _ (lv_entry As hn)
theorem s_met {l : Launch} {y : MethodName} {cc : ByteArray} {n : Nat} {ret : Option FieldType} {rm : Room} {As : List Value} {Qc : Array Value → State → Outcome → State → Prop} {mc ms : Nat} {A : Nat → Prop} (hy : plainName y.cls = true) (hn : (lg_sl As).length ≤ n)
    (body : ∀ (p : Program) (e : Env) (s : State) (m : MethodId) (below : List Frame) (meth : Method) (cd : Code), p.tables.exec = Jvm.exec → cd.code = cc → meth.sig.returnType = ret → cd.maxLocals = n → s.vm.findClass y.cls = some m.cls → (∀ w ∈ lw_all, w.before As.toArray s = true) → meth.locks = false → ∀ ls : Array Slot, lv_has ls n (lv_args 0 As) →
      W p l e rm s m As.toArray below meth cd s.heap [] 0 0 (MQ below Qc As.toArray s mc ms A) (F0 m 0 ls [])) : Met l y (ws_ y cc n ret) rm (sPc As) Qc mc ms A := by
  refine Met.ofW (cc := cc) (maxL := n) (ret := ret) hy rfl ?_
  intro p e s m args below meth cd s₁ B hml hv
  obtain ⟨rfl, -⟩ := hv
  have hts := atoms_spec (ws := ws_ y cc n ret) B.pre
  rw [lg_entry_eq]
  exact body p e s m below meth cd B.exec B.bytes B.returns hml (findClass_of_methodNamed B.named) (fun w h => hts w (List.mem_cons_of_mem _ h)) B.notSynchronized _ (lv_entry As hn)
section GW
variable {p : Program} {l : Launch} {e : Env} {R : Room} {s : State} {m : MethodId} {args : Array Value} {below : List Frame} {meth : Method} {cd : Code} {H : Heap} {locs : List Loc} {cells slots : Nat} {Q : State → Prop}
variable {cc : ByteArray} {pc : Nat} {ls : Array Slot} {rest st0 : List Value} {D : va_G} {A : Nat → Prop} {a : Nat} {tys : List (ClassId × FieldType)} {ws : va_W} {H0 : Heap}
/-- the top of the stack under another name -/
theorem g_tw {x y : Int32} (h : x = y) (k : W p l e R s m args below meth cd H locs cells slots Q (F0 m pc ls (.int y :: rest))) : W p l e R s m args below meth cd H locs cells slots Q (F0 m pc ls (.int x :: rest)) := by rw [h]; exact k
theorem g_loop (P : Nat → Array Slot → Prop)
    (step : ∀ n ls, P n ls → (∀ n' ls', n' < n → P n' ls' → W p l e R s m args below meth cd H locs cells slots Q (F0 m pc ls' [])) → W p l e R s m args below meth cd H locs cells slots Q (F0 m pc ls [])) :
    ∀ n ls, P n ls → W p l e R s m args below meth cd H locs cells slots Q (F0 m pc ls []) := by
  intro n
  induction n using Nat.strongRecOn with
  | ind n ih => intro ls h; exact step n ls h (fun n' ls' hn h' => ih n' hn ls' h')
theorem g_loopH (P : Nat → Heap → List Loc → Array Slot → Prop)
    (step : ∀ n H locs ls, P n H locs ls → (∀ n' H' locs' ls', n' < n → P n' H' locs' ls' → W p l e R s m args below meth cd H' locs' cells slots Q (F0 m pc ls' [])) → W p l e R s m args below meth cd H locs cells slots Q (F0 m pc ls [])) :
    ∀ n H locs ls, P n H locs ls → W p l e R s m args below meth cd H locs cells slots Q (F0 m pc ls []) := by
  intro n
  induction n using Nat.strongRecOn with
  | ind n ih => intro H locs ls h; exact step n H locs ls h (fun n' H' locs' ls' hn h' => ih n' hn H' locs' ls' h')
theorem g_iald (hexec : p.tables.exec = Jvm.exec) (hb : cd.code = cc) (hK : va_K D vwCl tys s) (hP : va_P D vwCl ws H) (q0 t0 : Nat) {cA : ClassId} {n : Nat} {f : Nat → Int32} (ha : ws[q0]? = some (a, .inl (cA, n, .inl f))) (ht : tys[t0]? = some (cA, .int)) {k : Nat} (hk : k < n) (hn : n < 2 ^ 31) (hdg : decode cc pc = .ok (.iaload, 1))
    (kk : W p l e R s m args below meth cd H locs cells slots Q (F0 m (pc + 1) ls (.int (f k) :: rest))) : W p l e R s m args below meth cd H locs cells slots Q (F0 m pc ls (.int (nI k) :: .ref a :: rest)) := by
  refine va_iald hexec hb hK hP q0 t0 ha ht (vp_in_nI hk hn) hdg ?_
  rw [nI_clamp (Nat.lt_trans hk hn)]
  exact kk
theorem g_zald (hexec : p.tables.exec = Jvm.exec) (hb : cd.code = cc) (hK : va_K D vwCl tys s) (hP : va_P D vwCl ws H) (q0 t0 : Nat) {cA : ClassId} {n : Nat} {f : Nat → Int32} (ha : ws[q0]? = some (a, .inl (cA, n, .inl f))) (ht : tys[t0]? = some (cA, .boolean)) {k : Nat} (hk : k < n) (hn : n < 2 ^ 31) (hdg : decode cc pc = .ok (.baload, 1))
    (kk : W p l e R s m args below meth cd H locs cells slots Q (F0 m (pc + 1) ls (.int (f k) :: rest))) : W p l e R s m args below meth cd H locs cells slots Q (F0 m pc ls (.int (nI k) :: .ref a :: rest)) := by
  refine va_zald hexec hb hK hP q0 t0 ha ht (vp_in_nI hk hn) hdg ?_
  rw [nI_clamp (Nat.lt_trans hk hn)]
  exact kk
theorem g_iast (hexec : p.tables.exec = Jvm.exec) (hb : cd.code = cc) (hK : va_K D vwCl tys s) (hP : va_P D vwCl ws H) (hD : va_D A ws) (hS : va_S A H0 H locs) (q0 t0 : Nat) {cA : ClassId} {n : Nat} {f : Nat → Int32} (ha : ws[q0]? = some (a, .inl (cA, n, .inl f))) (ht : tys[t0]? = some (cA, .int)) {k : Nat} {x : Int32} (hk : k < n) (hn : n < 2 ^ 31) (hdg : decode cc pc = .ok (.iastore, 1))
    (kk : ∀ (H1 : Heap) (locs1 : List Loc), va_P D vwCl (ws.set q0 (a, .inl (cA, n, .inl (upd f k x)))) H1 → va_S A H0 H1 locs1 → W p l e R s m args below meth cd H1 locs1 cells slots Q (F0 m (pc + 1) ls rest)) : W p l e R s m args below meth cd H locs cells slots Q (F0 m pc ls (.int x :: .int (nI k) :: .ref a :: rest)) := by
  refine va_iast hexec hb hK hP hD hS q0 t0 ha ht (vp_in_nI hk hn) hdg ?_
  rw [nI_clamp (Nat.lt_trans hk hn)]
  exact fun H1 locs1 h1 _ h3 => kk H1 locs1 h1 h3
theorem g_zast (hexec : p.tables.exec = Jvm.exec) (hb : cd.code = cc) (hK : va_K D vwCl tys s) (hP : va_P D vwCl ws H) (hD : va_D A ws) (hS : va_S A H0 H locs) (q0 t0 : Nat) {cA : ClassId} {n : Nat} {f : Nat → Int32} (ha : ws[q0]? = some (a, .inl (cA, n, .inl f))) (ht : tys[t0]? = some (cA, .boolean)) {k : Nat} {x : Int32} (hx : vp_nar .boolean x = x) (hk : k < n) (hn : n < 2 ^ 31) (hdg : decode cc pc = .ok (.bastore, 1))
    (kk : ∀ (H1 : Heap) (locs1 : List Loc), va_P D vwCl (ws.set q0 (a, .inl (cA, n, .inl (upd f k x)))) H1 → va_S A H0 H1 locs1 → W p l e R s m args below meth cd H1 locs1 cells slots Q (F0 m (pc + 1) ls rest)) : W p l e R s m args below meth cd H locs cells slots Q (F0 m pc ls (.int x :: .int (nI k) :: .ref a :: rest)) := by
  refine va_zast hexec hb hK hP hD hS q0 t0 ha ht (vp_in_nI hk hn) hdg ?_
  rw [nI_clamp (Nat.lt_trans hk hn), hx]
  exact fun H1 locs1 h1 _ h3 => kk H1 locs1 h1 h3
/-- behind a call that reads -/
theorem g_callR {r : Int32} {a : Array Value} (hr : CallRun p l e R s m args below meth cd H locs cells slots 0 0 (F0 m pc ls st0) rest (QcRead r a) (fun _ => False)) (kk : W p l e R s m args below meth cd H locs cells slots Q (F0 m (pc + 3) ls (.int r :: rest))) : W p l e R s m args below meth cd H locs cells slots Q (F0 m pc ls st0) := W.callR hr kk
/-- a method's end: the answer and the new world -/
def gQi {S : Type} (D : va_G) (wf : S → va_W) (post : Int32 → S → Prop) (A : Nat → Prop) : Array Value → State → Outcome → State → Prop := va_Qi post (fun u t => va_P D vwCl (wf u) t.heap) A
def gQv {S : Type} (D : va_G) (wf : S → va_W) (post : S → Prop) (A : Nat → Prop) : Array Value → State → Outcome → State → Prop := va_Qv post (fun u t => va_P D vwCl (wf u) t.heap) A
theorem g_calli {S : Type} {wf : S → va_W} {post : Int32 → S → Prop} {a : Array Value} (hr : va_Run p l e R s m args below meth cd H locs cells slots 0 0 (F0 m pc ls st0) rest (gQi D wf post A a) A) (hS : va_S A H0 H locs)
    (kk : ∀ (r : Int32) (u : S) (H1 : Heap) (locs1 : List Loc), post r u → va_P D vwCl (wf u) H1 → va_S A H0 H1 locs1 → W p l e R s m args below meth cd H1 locs1 cells slots Q (F0 m (pc + 3) ls (.int r :: rest))) : W p l e R s m args below meth cd H locs cells slots Q (F0 m pc ls st0) :=
  va_calli (A1 := A) hr hS (fun _ _ h => h) (fun _ h => h) (fun r u t H1 locs1 ht _ hp hB _ _ hS1 => kk r u H1 locs1 hp (by rw [← ht]; exact hB) hS1)
theorem g_callv {S : Type} {wf : S → va_W} {post : S → Prop} {a : Array Value} (hr : va_Run p l e R s m args below meth cd H locs cells slots 0 0 (F0 m pc ls st0) rest (gQv D wf post A a) A) (hS : va_S A H0 H locs)
    (kk : ∀ (u : S) (H1 : Heap) (locs1 : List Loc), post u → va_P D vwCl (wf u) H1 → va_S A H0 H1 locs1 → W p l e R s m args below meth cd H1 locs1 cells slots Q (F0 m (pc + 3) ls (rest))) : W p l e R s m args below meth cd H locs cells slots Q (F0 m pc ls st0) :=
  va_callv (A1 := A) hr hS (fun _ _ h => h) (fun _ h => h) (fun u t H1 locs1 ht _ hp hB _ _ hS1 => kk u H1 locs1 hp (by rw [← ht]; exact hB) hS1)
/-- returns -/
theorem g_ret {r v : Int32} (hexec : p.tables.exec = Jvm.exec) (hb : cd.code = cc) (hr : meth.sig.returnType = some .int) (hlocks : meth.locks = false) (h : v = r) (hdg : decode cc pc = .ok (.ireturn, 1)) : W p l e R s m args below meth cd s.heap [] cells slots (MQ below (QcRead r) args s cells slots (fun _ => False)) (F0 m pc ls [.int v]) := by
  subst h
  exact W.iret hexec hb hr (fun t ht _ => ⟨rfl, ht⟩) t_nil hdg
theorem g_retz {r v : Int32} (hexec : p.tables.exec = Jvm.exec) (hb : cd.code = cc) (hr : meth.sig.returnType = some .boolean) (hlocks : meth.locks = false) (hn : narrow .boolean (.int v) = .int v) (h : v = r) (hdg : decode cc pc = .ok (.ireturn, 1)) : W p l e R s m args below meth cd s.heap [] cells slots (MQ below (QcRead r) args s cells slots (fun _ => False)) (F0 m pc ls [.int v]) := by
  subst h
  exact W.zret hexec hb hr hn (fun t ht _ => ⟨rfl, ht⟩) t_nil hdg
theorem g_reti {S : Type} {wf : S → va_W} {post : Int32 → S → Prop} {v : Int32} (u : S) (hexec : p.tables.exec = Jvm.exec) (hb : cd.code = cc) (hr : meth.sig.returnType = some .int) (hlocks : meth.locks = false) (hP : va_P D vwCl (wf u) H) (hS : va_S A s.heap H locs) (h : post v u) (hdg : decode cc pc = .ok (.ireturn, 1)) : W p l e R s m args below meth cd H locs cells slots (MQ below (gQi D wf post A) args s cells slots A) (F0 m pc ls [.int v]) :=
  W.iret hexec hb hr (fun t ht _ => ⟨⟨v, u, rfl, h, by show va_P D vwCl (wf u) t.heap; rw [ht]; exact hP⟩, hS.F ht⟩) hS.2.2 hdg
theorem g_retv {S : Type} {wf : S → va_W} {post : S → Prop} (u : S) (hexec : p.tables.exec = Jvm.exec) (hb : cd.code = cc) (hr : meth.sig.returnType = none) (hlocks : meth.locks = false) (hP : va_P D vwCl (wf u) H) (hS : va_S A s.heap H locs) (h : post u) (hdg : decode cc pc = .ok (.return_, 1)) : W p l e R s m args below meth cd H locs cells slots (MQ below (gQv D wf post A) args s cells slots A) (F0 m pc ls []) :=
  W.vret hexec hb hr (fun t ht _ => ⟨⟨u, rfl, h, by show va_P D vwCl (wf u) t.heap; rw [ht]; exact hP⟩, hS.F ht⟩) hS.2.2 hdg
end GW
theorem inc1 (k : Nat) : nI k + Int32.ofInt 1 = nI (k + 1) := nI_1 k
/-- the states of the two objects -/
abbrev XS : Type := (Nat → Int32) × (Nat → Int32) × (Nat → Int32) × (Nat → Int32) × (Nat → Int32) × (Nat → Int32) × Int32 × Int32 × Int32 × Int32 × Int32
abbrev MS : Type := (Nat → Int32) × (Nat → Int32) × (Nat → Int32) × Int32 × Int32
abbrev xwS (q : Nat → Nat) (d : Nat → ClassId) (u : XS) : va_W := xw q d u.1 u.2.1 u.2.2.1 u.2.2.2.1 u.2.2.2.2.1 u.2.2.2.2.2.1 u.2.2.2.2.2.2.1 u.2.2.2.2.2.2.2.1 u.2.2.2.2.2.2.2.2.1 u.2.2.2.2.2.2.2.2.2.1 u.2.2.2.2.2.2.2.2.2.2
abbrev mwS (q : Nat → Nat) (d : Nat → ClassId) (u : MS) : va_W := mw q d u.1 u.2.1 u.2.2.1 u.2.2.2.1 u.2.2.2.2
end
section
/-! bits, and what the small methods compute. The bt family and nx_and began as rows of laws/BITS.to-paste -/
set_option maxRecDepth 100000
def bt (x : Int32) (i : Nat) : Bool := x.toBitVec.getLsbD i
theorem b_ext {x y : Int32} (h : ∀ i, i < 32 → bt x i = bt y i) : x = y := Int32.toBitVec_inj.mp (BitVec.eq_of_getLsbD_eq (fun i hi => h i hi))
theorem b_or (x y : Int32) (i : Nat) : bt (x ||| y) i = (bt x i || bt y i) := by unfold bt; rw [Int32.toBitVec_or, BitVec.getLsbD_or]
theorem b_and (x y : Int32) (i : Nat) : bt (x &&& y) i = (bt x i && bt y i) := by unfold bt; rw [Int32.toBitVec_and, BitVec.getLsbD_and]
theorem b_xor (x y : Int32) (i : Nat) : bt (x ^^^ y) i = (bt x i ^^ bt y i) := by unfold bt; rw [Int32.toBitVec_xor, BitVec.getLsbD_xor]
theorem b_big {x : Int32} {i : Nat} (h : 32 ≤ i) : bt x i = false := BitVec.getLsbD_of_ge _ _ h
theorem b_m1 : ∀ i, i < 32 → bt (-1) i = true := by decide +kernel
theorem b_0 (i : Nat) : bt 0 i = false := BitVec.getLsbD_zero
theorem s_l : ∀ n, n < 32 → ((nI n &&& 31).toBitVec.smod 32).toNat = n := by decide +kernel
theorem s_u : ∀ n, n < 32 → (((nI n).toUInt32 &&& Int32.toUInt32 31).toBitVec % 32).toNat = n := by decide +kernel
theorem b_shl (n : Nat) (hn : n < 32) (x : Int32) {i : Nat} (hi : i < 32) : bt (x <<< (nI n &&& 31)) i = (decide (n ≤ i) && bt x (i - n)) := by
  unfold bt
  rw [Int32.toBitVec_shiftLeft]
  show (x.toBitVec <<< ((nI n &&& 31).toBitVec.smod 32).toNat).getLsbD i = _
  rw [s_l n hn, BitVec.getLsbD_shiftLeft]
  rcases Nat.lt_or_ge i n with h | h
  · simp [h, Nat.not_le.mpr h]
  · simp [hi, h, Nat.not_lt.mpr h]
theorem b_ushr (n : Nat) (hn : n < 32) (x : Int32) (i : Nat) : bt ((x.toUInt32 >>> ((nI n).toUInt32 &&& Int32.toUInt32 31)).toInt32) i = bt x (n + i) := by
  show (x.toUInt32 >>> ((nI n).toUInt32 &&& Int32.toUInt32 31)).toBitVec.getLsbD i = x.toUInt32.toBitVec.getLsbD (n + i)
  rw [UInt32.toBitVec_shiftRight]
  show (x.toUInt32.toBitVec >>> (((nI n).toUInt32 &&& Int32.toUInt32 31).toBitVec % 32).toNat).getLsbD i = _
  rw [s_u n hn, BitVec.getLsbD_ushiftRight]
theorem b_sshr (n : Nat) (hn : n < 32) (x : Int32) {i : Nat} (hi : i < 32) : bt (x >>> (nI n &&& 31)) i = if n + i < 32 then bt x (n + i) else bt x 31 := by
  unfold bt
  rw [Int32.toBitVec_shiftRight]
  show (x.toBitVec.sshiftRight ((nI n &&& 31).toBitVec.smod 32).toNat).getLsbD i = _
  rw [s_l n hn, BitVec.getLsbD_sshiftRight, BitVec.msb_eq_getLsbD_last]
  simp [hi]
theorem nx_and (a b : Nat) : nI a &&& nI b = nI (a &&& b) := by
  apply Int32.toBitVec_inj.1
  show BitVec.ofNat 32 a &&& BitVec.ofNat 32 b = BitVec.ofNat 32 (a &&& b)
  apply BitVec.eq_of_getLsbD_eq
  intro i hi
  simp [hi]
theorem nx_xor (a b : Nat) : nI a ^^^ nI b = nI (a ^^^ b) := by
  apply Int32.toBitVec_inj.1
  show BitVec.ofNat 32 a ^^^ BitVec.ofNat 32 b = BitVec.ofNat 32 (a ^^^ b)
  apply BitVec.eq_of_getLsbD_eq
  intro i hi
  simp [hi]
theorem nx_or (a b : Nat) : nI a ||| nI b = nI (a ||| b) := by
  apply Int32.toBitVec_inj.1
  show BitVec.ofNat 32 a ||| BitVec.ofNat 32 b = BitVec.ofNat 32 (a ||| b)
  apply BitVec.eq_of_getLsbD_eq
  intro i hi
  simp [hi]
def b2i (b : Bool) : Int32 := if b then 1 else 0
theorem b2i_1 {b : Bool} : b2i b = 1 ↔ b = true := by cases b <;> decide
theorem b2i_0 {b : Bool} : b2i b = 0 ↔ b = false := by cases b <;> decide
def sb (x : Int32) (k : Nat) : Int32 := (x >>> (nI k &&& 31)) &&& 1
def ub (x : Int32) (k : Nat) : Int32 := (x.toUInt32 >>> ((nI k).toUInt32 &&& Int32.toUInt32 31)).toInt32 &&& 1
theorem bt_1 : ∀ i, i < 32 → bt 1 i = decide (i = 0) := by decide +kernel
theorem b2i_bt (b : Bool) {i : Nat} (hi : i < 32) : bt (b2i b) i = (b && decide (i = 0)) := by
  cases b
  · exact b_0 i
  · rw [Bool.true_and]; exact bt_1 i hi
theorem sb_eq (x : Int32) {k : Nat} (hk : k < 32) : sb x k = b2i (bt x k) := by
  apply b_ext
  intro i hi
  unfold sb
  rw [b_and, b_sshr k hk x hi, b2i_bt _ hi, bt_1 i hi]
  by_cases h : i = 0
  · subst h; simp [hk]
  · simp [h]
theorem ub_eq (x : Int32) {k : Nat} (hk : k < 32) : ub x k = b2i (bt x k) := by
  apply b_ext
  intro i hi
  unfold ub
  rw [b_and, b_ushr k hk x i, b2i_bt _ hi, bt_1 i hi]
  by_cases h : i = 0
  · subst h; simp
  · simp [h]
theorem bt_nI (n : Nat) {i : Nat} (hi : i < 32) : bt (nI n) i = n.testBit i := by
  show (BitVec.ofNat 32 n).getLsbD i = n.testBit i
  rw [BitVec.getLsbD_ofNat, decide_eq_true hi, Bool.true_and]
theorem sb_1 (x : Int32) {k : Nat} (hk : k < 32) : sb x k = 1 ↔ bt x k = true := by rw [sb_eq x hk]; exact b2i_1
theorem ub_1 (x : Int32) {k : Nat} (hk : k < 32) : ub x k = 1 ↔ bt x k = true := by rw [ub_eq x hk]; exact b2i_1
theorem sh5 {t : Nat} (h : t < 512) : nI t >>> ((5 : Int32) &&& 31) = nI (t / 32) := pk_shrN (by omega) _ 5 (by decide)
theorem an31 (t : Nat) : nI t &&& 31 = nI (t % 32) := by
  show nI t &&& nI 31 = _
  rw [nx_and, show (31 : Nat) = 2 ^ 5 - 1 from rfl, Nat.and_two_pow_sub_one_eq_mod]
theorem shl1 : ∀ c, c < 31 → (1 : Int32) <<< (nI c &&& 31) = nI (2 ^ c) := by decide +kernel
theorem pow9 {c : Nat} (h : c ≤ 9) : 2 ^ c ≤ 512 := Nat.pow_le_pow_right (by decide) h
/-- common(p) over the first k words -/
def comF (w : Nat → Int32) (p : Int32) : Nat → Int32
  | 0 => -1
  | k + 1 => if sb p k = 1 then comF w p k &&& w k else comF w p k
def onesF (p : Int32) : Nat → Int32
  | 0 => 0
  | k + 1 => onesF p k + sb p k
def priF (pr : Nat → Int32) (p : Int32) : Nat → Int32
  | 0 => 0
  | k + 1 => priF pr p k + (if sb p k = 1 then pr k else 0)
def wrdF (p : Int32) : Nat → Int32
  | 0 => 0
  | k + 1 => wrdF p k ||| ((((nI k >>> ((p >>> ((1 : Int32) &&& 31)) &&& 31)) &&& 1) ^^^ (p &&& 1)) <<< (nI k &&& 31))
def isG (p cn : Int32) : Int32 := if p < 0 then 0 else if cn ≤ p then 0 else 1
def isT (p : Int32) (c : Nat) : Int32 := if p < 0 then 0 else if (1 : Int32) <<< (nI c &&& 31) ≤ p then 0 else 1
def isB (p cn : Int32) : Int32 := if p < 0 then 1 else if cn ≤ p then 1 else 0
def isU (p : Int32) (c : Nat) : Int32 := if p < 0 then 1 else if p < (1 : Int32) <<< (nI c &&& 31) then 0 else 1
/-- the least i from i on, n of them, with P -/
def fnd (P : Nat → Bool) : Nat → Nat → Int32
  | 0, _ => -2
  | n + 1, i => if P i then nI i else fnd P n (i + 1)
def wtB (wt : Nat → Int32) (t : Nat) : Bool := bt (wt (t / 32)) (t % 32)
def tkO (wt : Nat → Int32) (t : Nat) : Nat → Int32 := upd wt (t / 32) (wt (t / 32) &&& (((1 : Int32) <<< (nI (t % 32) &&& 31)) ^^^ -1))
/-- a clause of literals L holds at the values x, tried from variable b on -/
def hol (L : Int32) (x : Nat) : Nat → Nat → Bool
  | 0, _ => false
  | n + 1, b => if bt L (if x.testBit b then 2 * b else 2 * b + 1) then true else hol L x n (b + 1)
abbrev holB (L : Int32) (x : Nat) : Bool := hol L x 5 0
/-- all clauses of the set hold, tried from clause k on -/
def alh (lt : Nat → Int32) (p : Int32) (x : Nat) : Nat → Nat → Bool
  | 0, _ => true
  | n + 1, k => if bt p k && !holB (lt k) x then false else alh lt p x n (k + 1)
theorem isG_t {p : Int32} {c : Nat} (hc : c ≤ 9) (h : ¬ isG p (nI c) = 0) : ∃ j, j < c ∧ p = nI j := by
  unfold isG at h
  by_cases h1 : p < 0
  · exact absurd (if_pos h1) h
  · rw [if_neg h1] at h
    by_cases h2 : nI c ≤ p
    · exact absurd (if_pos h2) h
    · obtain ⟨j, hj, rfl⟩ := nI_of h1
      refine ⟨j, ?_, rfl⟩
      rw [nI_leI (by omega) hj] at h2
      omega
theorem isG_f {p : Int32} {c : Nat} (h : isG p (nI c) = 0) : p < 0 ∨ nI c ≤ p := by
  unfold isG at h
  by_cases h1 : p < 0
  · exact Or.inl h1
  · rw [if_neg h1] at h
    by_cases h2 : nI c ≤ p
    · exact Or.inr h2
    · rw [if_neg h2] at h
      exact absurd h (by decide)
theorem isB_isG (p cn : Int32) : isB p cn = 0 ↔ ¬ isG p cn = 0 := by
  unfold isB isG
  by_cases h1 : p < 0
  · rw [if_pos h1, if_pos h1]; decide
  · rw [if_neg h1, if_neg h1]
    by_cases h2 : cn ≤ p
    · rw [if_pos h2, if_pos h2]; decide
    · rw [if_neg h2, if_neg h2]; decide
theorem isT_t {p : Int32} {c : Nat} (hc : c ≤ 9) (h : ¬ isT p c = 0) : ∃ t, t < 2 ^ c ∧ p = nI t := by
  unfold isT at h
  have hp := pow9 hc
  by_cases h1 : p < 0
  · exact absurd (if_pos h1) h
  · rw [if_neg h1, shl1 c (by omega)] at h
    by_cases h2 : nI (2 ^ c) ≤ p
    · exact absurd (if_pos h2) h
    · obtain ⟨j, hj, rfl⟩ := nI_of h1
      refine ⟨j, ?_, rfl⟩
      rw [nI_leI (by omega) hj] at h2
      omega
theorem isU_isT (p : Int32) (c : Nat) : isU p c = 0 ↔ ¬ isT p c = 0 := by
  unfold isU isT
  by_cases h1 : p < 0
  · rw [if_pos h1, if_pos h1]; decide
  · rw [if_neg h1, if_neg h1]
    by_cases h2 : (1 : Int32) <<< (nI c &&& 31) ≤ p
    · rw [if_neg (Int32.not_lt.mpr h2), if_pos h2]; decide
    · rw [if_pos (Int32.not_le.mp h2), if_neg h2]; decide
theorem b2i_n1 {b : Bool} (h : ¬ b2i b = 1) : b2i b = 0 := by cases b; rfl; exact absurd rfl h
theorem comF_t {w : Nat → Int32} {p : Int32} {k : Nat} (h : sb p k = 1) : comF w p (k + 1) = comF w p k &&& w k := if_pos h
theorem comF_f {w : Nat → Int32} {p : Int32} {k : Nat} (h : ¬ sb p k = 1) : comF w p (k + 1) = comF w p k := if_neg h
theorem priF_t {w : Nat → Int32} {p : Int32} {k : Nat} (h : sb p k = 1) : priF w p (k + 1) = priF w p k + w k := by
  show priF w p k + (if sb p k = 1 then w k else 0) = _
  rw [if_pos h]
theorem priF_f {w : Nat → Int32} {p : Int32} {k : Nat} (h : ¬ sb p k = 1) : priF w p (k + 1) = priF w p k + 0 := by
  show priF w p k + (if sb p k = 1 then w k else 0) = _
  rw [if_neg h]
theorem fnd_t {P : Nat → Bool} {n k : Nat} (hn : 0 < n) (h : P k = true) : fnd P n k = nI k := by
  cases n with
  | zero => omega
  | succ n => exact if_pos h
theorem fnd_f {P : Nat → Bool} {n k : Nat} (hn : 0 < n) (h : P k = false) : fnd P n k = fnd P (n - 1) (k + 1) := by
  cases n with
  | zero => omega
  | succ n => exact if_neg (by rw [h]; decide)
theorem hol_t {L : Int32} {x n b : Nat} (hn : 0 < n) (h : bt L (if x.testBit b then 2 * b else 2 * b + 1) = true) : hol L x n b = true := by
  cases n with
  | zero => omega
  | succ n => exact if_pos h
theorem hol_f {L : Int32} {x n b : Nat} (hn : 0 < n) (h : bt L (if x.testBit b then 2 * b else 2 * b + 1) = false) : hol L x n b = hol L x (n - 1) (b + 1) := by
  cases n with
  | zero => omega
  | succ n => exact if_neg (by rw [h]; decide)
theorem alh_t {lt : Nat → Int32} {p : Int32} {x n k : Nat} (hn : 0 < n) (h : bt p k = true) (h2 : holB (lt k) x = false) : alh lt p x n k = false := by
  cases n with
  | zero => omega
  | succ n => exact if_pos (by rw [h, h2]; rfl)
theorem alh_f {lt : Nat → Int32} {p : Int32} {x n k : Nat} (hn : 0 < n) (h : bt p k = false ∨ holB (lt k) x = true) : alh lt p x n k = alh lt p x (n - 1) (k + 1) := by
  cases n with
  | zero => omega
  | succ n => exact if_neg (by rcases h with h | h <;> rw [h] <;> simp)
def sumF (f : Nat → Int32) : Nat → Int32
  | 0 => 0
  | k + 1 => sumF f k + f k
/-- the members of a that aren't in b -/
def sdf (a b : Nat) : Nat := a ^^^ (a &&& b)
theorem sdf_bit (a b i : Nat) : (sdf a b).testBit i = (a.testBit i && !b.testBit i) := by
  unfold sdf
  rw [Nat.testBit_xor, Nat.testBit_and]
  cases a.testBit i <;> cases b.testBit i <;> rfl
theorem sd_I (a b : Nat) : nI a &&& (nI b ^^^ -1) = nI (sdf a b) := by
  apply b_ext
  intro i hi
  rw [b_and, b_xor, bt_nI _ hi, bt_nI _ hi, bt_nI _ hi, b_m1 i hi, sdf_bit, Bool.xor_true]
theorem sub_le {a b : Nat} (h : ∀ i, a.testBit i = true → b.testBit i = true) : a ≤ b := by
  have e : a = b &&& a := by
    apply Nat.eq_of_testBit_eq
    intro i
    rw [Nat.testBit_and]
    cases ha : a.testBit i
    · rw [Bool.and_false]
    · rw [h i ha]; rfl
  rw [e]
  exact Nat.and_le_left
theorem sdf_le (a b : Nat) : sdf a b ≤ a := by
  apply sub_le
  intro i h
  rw [sdf_bit] at h
  cases ha : a.testBit i
  · rw [ha] at h; exact h
  · rfl
theorem all_I {c : Nat} (hc : c ≤ 9) : (1 : Int32) <<< (nI c &&& 31) - 1 = nI (2 ^ c - 1) := by
  rw [shl1 c (by omega)]
  exact pk_sub (b := 1) (Nat.one_le_two_pow)
def okB (w : Nat → Int32) (c t : Nat) : Bool := decide (¬ comF w (nI t) c = 0)
def growN (ok : Nat → Bool) (s : Nat) : Nat → Nat
  | 0 => s
  | k + 1 => if ok (growN ok s k ||| 2 ^ k) then growN ok s k ||| 2 ^ k else growN ok s k
def shrN (ok : Nat → Bool) (s : Nat) : Nat → Nat
  | 0 => s
  | k + 1 => if ok (sdf (shrN ok s k) (2 ^ k)) then shrN ok s k else sdf (shrN ok s k) (2 ^ k)
theorem growN_t {ok : Nat → Bool} {s k : Nat} (h : ok (growN ok s k ||| 2 ^ k) = true) : growN ok s (k + 1) = growN ok s k ||| 2 ^ k := if_pos h
theorem growN_f {ok : Nat → Bool} {s k : Nat} (h : ok (growN ok s k ||| 2 ^ k) = false) : growN ok s (k + 1) = growN ok s k := if_neg (by rw [h]; decide)
theorem shrN_t {ok : Nat → Bool} {s k : Nat} (h : ok (sdf (shrN ok s k) (2 ^ k)) = true) : shrN ok s (k + 1) = shrN ok s k := if_pos h
theorem shrN_f {ok : Nat → Bool} {s k : Nat} (h : ok (sdf (shrN ok s k) (2 ^ k)) = false) : shrN ok s (k + 1) = sdf (shrN ok s k) (2 ^ k) := if_neg (by rw [h]; decide)
/-- no member can be dropped, tried from k on -/
def kerL (ok : Nat → Bool) (t : Nat) : Nat → Nat → Bool
  | 0, _ => true
  | n + 1, k => if t.testBit k && !ok (sdf t (2 ^ k)) then false else kerL ok t n (k + 1)
def isK (ok : Nat → Bool) (c t : Nat) : Bool := !ok t && kerL ok t c 0
def corL (ok : Nat → Bool) (c t : Nat) : Nat → Nat → Bool
  | 0, _ => true
  | n + 1, k => if t.testBit k && ok (sdf (2 ^ c - 1) t ||| 2 ^ k) then false else corL ok c t n (k + 1)
def isC (ok : Nat → Bool) (c t : Nat) : Bool := ok (sdf (2 ^ c - 1) t) && corL ok c t c 0
theorem kerL_t {ok : Nat → Bool} {t n k : Nat} (hn : 0 < n) (h : t.testBit k = true) (h2 : ok (sdf t (2 ^ k)) = false) : kerL ok t n k = false := by
  cases n with
  | zero => omega
  | succ n => exact if_pos (by rw [h, h2]; rfl)
theorem kerL_f {ok : Nat → Bool} {t n k : Nat} (hn : 0 < n) (h : t.testBit k = false ∨ ok (sdf t (2 ^ k)) = true) : kerL ok t n k = kerL ok t (n - 1) (k + 1) := by
  cases n with
  | zero => omega
  | succ n => exact if_neg (by rcases h with h | h <;> rw [h] <;> simp)
theorem corL_t {ok : Nat → Bool} {c t n k : Nat} (hn : 0 < n) (h : t.testBit k = true) (h2 : ok (sdf (2 ^ c - 1) t ||| 2 ^ k) = true) : corL ok c t n k = false := by
  cases n with
  | zero => omega
  | succ n => exact if_pos (by rw [h, h2]; rfl)
theorem corL_f {ok : Nat → Bool} {c t n k : Nat} (hn : 0 < n) (h : t.testBit k = false ∨ ok (sdf (2 ^ c - 1) t ||| 2 ^ k) = false) : corL ok c t n k = corL ok c t (n - 1) (k + 1) := by
  cases n with
  | zero => omega
  | succ n => exact if_neg (by rcases h with h | h <;> rw [h] <;> simp)
theorem or_bit_lt {a c k : Nat} (ha : a < 2 ^ c) (hk : k < c) : a ||| 2 ^ k < 2 ^ c := Nat.or_lt_two_pow ha (Nat.pow_lt_pow_right (by decide) hk)
theorem mul2 (b : Nat) : (2 : Int32) * nI b = nI (2 * b) := pk_mul 2 b
theorem okB_t {w : Nat → Int32} {c t : Nat} (h : ¬ comF w (nI t) c = 0) : okB w c t = true := decide_eq_true h
theorem okB_f {w : Nat → Int32} {c t : Nat} (h : comF w (nI t) c = 0) : okB w c t = false := decide_eq_false (fun z => z h)
theorem c_lt {k c : Nat} (hk : k ≤ c) (hc : c < 2 ^ 31) (h : ¬ nI c ≤ nI k) : k < c := by
  rcases Nat.lt_or_ge k c with z | z
  · exact z
  · exact absurd (nI_le z (by omega)) h
theorem c_eq {k c : Nat} (hk : k ≤ c) (hc : c < 2 ^ 31) (h : nI c ≤ nI k) : k = c := by
  have := (nI_leI hc (by omega)).mp h
  omega
end
section
/-! the methods that read: rows printed by gen/m_a.py -/
set_option maxRecDepth 100000

set_option maxHeartbeats 4000000 in
theorem mX0_isGood (l : Launch) (D : va_G) (q : Nat → Nat) (d : Nat → ClassId) (w : Nat → Int32) (pr : Nat → Int32) (dr : Nat → Int32) (kl : Nat → Int32) (fl : Nat → Int32) (wt : Nat → Int32) (c : Nat) (ds : Int32) (kc : Int32) (fc : Int32) (sv : Int32) (p0 : Int32) : Met l yX0_isGood (ws_ yX0_isGood cX0_isGood 2 (some .boolean)) ({ frames := 0, cells := 0, slots := 0, locals := 0 } : Room) (gPc D (xw q d w pr dr kl fl wt (nI c) ds kc fc sv) (xt d) [.ref (q 0), .int p0]) (QcRead (isG p0 (nI c))) 0 0 (fun _ => False) := by
  refine g_met (by decide) (Nat.le_of_ble_eq_true rfl) ?_
  intro p e s m below meth cd hx hb hr hml hown hts hlocks hname hP hK ls hl
  have hown : s.vm.findClass RX0 = some m.cls := hown
  have hl : lv_has ls 2 [(0, .ref (q 0)), (1, .int p0)] := hl
  refine lv_iload_n hx hb dX0_isGood_0 rfl (lv_at hl 1 rfl) ?_
  refine lv_if_lt (tgt := 16) hx hb dX0_isGood_1 (by decide) (fun c_1 => ?_) (fun c_1 => ?_)
  · refine lv_iconst (v := 0) hx hb dX0_isGood_16 (by decide) ?_
    exact g_retz hx hb hr hlocks rfl (by unfold isG; rw [if_pos c_1]) dX0_isGood_17
  · refine lv_iload_n hx hb dX0_isGood_4 rfl (lv_at hl 1 rfl) ?_
    refine lv_aload_n hx hb dX0_isGood_5 rfl (lv_at hl 0 rfl) ?_
    refine va_get (D := D) (ci := 0) (v := .int (nI c)) (C := RX0) (T := TX0) (N := 11) hx hb hts in_X0 hown hK hP 0 rfl rfl 6 (by decide) (hts _ q42) (fun _ h9 => h9) rfl dX0_isGood_6 ?_
    refine lv_icmp_ge (tgt := 16) hx hb dX0_isGood_9 (by decide) (fun c_9 => ?_) (fun c_9 => ?_)
    · refine lv_iconst (v := 0) hx hb dX0_isGood_16 (by decide) ?_
      exact g_retz hx hb hr hlocks rfl (by unfold isG; rw [if_neg c_1, if_pos c_9]) dX0_isGood_17
    · refine lv_iconst (v := 1) hx hb dX0_isGood_12 (by decide) ?_
      refine lv_goto (tgt := 17) hx hb dX0_isGood_13 (by decide) ?_
      exact g_retz hx hb hr hlocks rfl (by unfold isG; rw [if_neg c_1, if_neg c_9]) dX0_isGood_17

set_option maxHeartbeats 4000000 in
theorem mX0_isSet (l : Launch) (D : va_G) (q : Nat → Nat) (d : Nat → ClassId) (w : Nat → Int32) (pr : Nat → Int32) (dr : Nat → Int32) (kl : Nat → Int32) (fl : Nat → Int32) (wt : Nat → Int32) (c : Nat) (ds : Int32) (kc : Int32) (fc : Int32) (sv : Int32) (p0 : Int32) : Met l yX0_isSet (ws_ yX0_isSet cX0_isSet 2 (some .boolean)) ({ frames := 0, cells := 0, slots := 0, locals := 0 } : Room) (gPc D (xw q d w pr dr kl fl wt (nI c) ds kc fc sv) (xt d) [.ref (q 0), .int p0]) (QcRead (isT p0 c)) 0 0 (fun _ => False) := by
  refine g_met (by decide) (Nat.le_of_ble_eq_true rfl) ?_
  intro p e s m below meth cd hx hb hr hml hown hts hlocks hname hP hK ls hl
  have hown : s.vm.findClass RX0 = some m.cls := hown
  have hl : lv_has ls 2 [(0, .ref (q 0)), (1, .int p0)] := hl
  refine lv_iload_n hx hb dX0_isSet_0 rfl (lv_at hl 1 rfl) ?_
  refine lv_if_lt (tgt := 18) hx hb dX0_isSet_1 (by decide) (fun c_1 => ?_) (fun c_1 => ?_)
  · refine lv_iconst (v := 0) hx hb dX0_isSet_18 (by decide) ?_
    exact g_retz hx hb hr hlocks rfl (by unfold isT; rw [if_pos c_1]) dX0_isSet_19
  · refine lv_iload_n hx hb dX0_isSet_4 rfl (lv_at hl 1 rfl) ?_
    refine lv_iconst (v := 1) hx hb dX0_isSet_5 (by decide) ?_
    refine lv_aload_n hx hb dX0_isSet_6 rfl (lv_at hl 0 rfl) ?_
    refine va_get (D := D) (ci := 0) (v := .int (nI c)) (C := RX0) (T := TX0) (N := 11) hx hb hts in_X0 hown hK hP 0 rfl rfl 6 (by decide) (hts _ q42) (fun _ h9 => h9) rfl dX0_isSet_7 ?_
    refine lv_ishl hx hb dX0_isSet_10 ?_
    refine lv_icmp_ge (tgt := 18) hx hb dX0_isSet_11 (by decide) (fun c_11 => ?_) (fun c_11 => ?_)
    · refine lv_iconst (v := 0) hx hb dX0_isSet_18 (by decide) ?_
      exact g_retz hx hb hr hlocks rfl (by unfold isT; rw [if_neg c_1, if_pos c_11]) dX0_isSet_19
    · refine lv_iconst (v := 1) hx hb dX0_isSet_14 (by decide) ?_
      refine lv_goto (tgt := 19) hx hb dX0_isSet_15 (by decide) ?_
      exact g_retz hx hb hr hlocks rfl (by unfold isT; rw [if_neg c_1, if_neg c_11]) dX0_isSet_19

set_option maxHeartbeats 4000000 in
theorem mX1_badSet (l : Launch) (D : va_G) (q : Nat → Nat) (d : Nat → ClassId) (lt : Nat → Int32) (pm : Nat → Int32) (ab : Nat → Int32) (dm : Int32) (c : Nat) (p0 : Int32) : Met l yX1_badSet (ws_ yX1_badSet cX1_badSet 2 (some .boolean)) ({ frames := 0, cells := 0, slots := 0, locals := 0 } : Room) (gPc D (mw q d lt pm ab dm (nI c)) (mt d) [.ref (q 0), .int p0]) (QcRead (isU p0 c)) 0 0 (fun _ => False) := by
  refine g_met (by decide) (Nat.le_of_ble_eq_true rfl) ?_
  intro p e s m below meth cd hx hb hr hml hown hts hlocks hname hP hK ls hl
  have hown : s.vm.findClass RX1 = some m.cls := hown
  have hl : lv_has ls 2 [(0, .ref (q 0)), (1, .int p0)] := hl
  refine lv_iload_n hx hb dX1_badSet_0 rfl (lv_at hl 1 rfl) ?_
  refine lv_if_lt (tgt := 14) hx hb dX1_badSet_1 (by decide) (fun c_1 => ?_) (fun c_1 => ?_)
  · refine lv_iconst (v := 1) hx hb dX1_badSet_14 (by decide) ?_
    refine lv_goto (tgt := 19) hx hb dX1_badSet_15 (by decide) ?_
    exact g_retz hx hb hr hlocks rfl (by unfold isU; rw [if_pos c_1]) dX1_badSet_19
  · refine lv_iload_n hx hb dX1_badSet_4 rfl (lv_at hl 1 rfl) ?_
    refine lv_iconst (v := 1) hx hb dX1_badSet_5 (by decide) ?_
    refine lv_aload_n hx hb dX1_badSet_6 rfl (lv_at hl 0 rfl) ?_
    refine va_get (D := D) (ci := 1) (v := .int (nI c)) (C := RX1) (T := TX1) (N := 5) hx hb hts in_X1 hown hK hP 0 rfl rfl 1 (by decide) (hts _ q213) (fun _ h9 => h9) rfl dX1_badSet_7 ?_
    refine lv_ishl hx hb dX1_badSet_10 ?_
    refine lv_icmp_lt (tgt := 18) hx hb dX1_badSet_11 (by decide) (fun c_11 => ?_) (fun c_11 => ?_)
    · refine lv_iconst (v := 0) hx hb dX1_badSet_18 (by decide) ?_
      exact g_retz hx hb hr hlocks rfl (by unfold isU; rw [if_neg c_1, if_pos c_11]) dX1_badSet_19
    · refine lv_iconst (v := 1) hx hb dX1_badSet_14 (by decide) ?_
      refine lv_goto (tgt := 19) hx hb dX1_badSet_15 (by decide) ?_
      exact g_retz hx hb hr hlocks rfl (by unfold isU; rw [if_neg c_1, if_neg c_11]) dX1_badSet_19

set_option maxHeartbeats 4000000 in
theorem mX1_bad (l : Launch) (D : va_G) (q : Nat → Nat) (d : Nat → ClassId) (lt : Nat → Int32) (pm : Nat → Int32) (ab : Nat → Int32) (dm : Int32) (c : Nat) (p0 : Int32) (hc9 : c ≤ 9) : Met l yX1_bad (ws_ yX1_bad cX1_bad 2 (some .boolean)) ({ frames := 0, cells := 0, slots := 0, locals := 0 } : Room) (gPc D (mw q d lt pm ab dm (nI c)) (mt d) [.ref (q 0), .int p0]) (QcRead (isB p0 (nI c))) 0 0 (fun _ => False) := by
  refine g_met (by decide) (Nat.le_of_ble_eq_true rfl) ?_
  intro p e s m below meth cd hx hb hr hml hown hts hlocks hname hP hK ls hl
  have hown : s.vm.findClass RX1 = some m.cls := hown
  have hl : lv_has ls 2 [(0, .ref (q 0)), (1, .int p0)] := hl
  refine lv_iload_n hx hb dX1_bad_0 rfl (lv_at hl 1 rfl) ?_
  refine lv_if_lt (tgt := 18) hx hb dX1_bad_1 (by decide) (fun c_1 => ?_) (fun c_1 => ?_)
  · refine lv_iconst (v := 1) hx hb dX1_bad_18 (by decide) ?_
    refine lv_goto (tgt := 23) hx hb dX1_bad_19 (by decide) ?_
    exact g_retz hx hb hr hlocks rfl (by unfold isB; rw [if_pos c_1]) dX1_bad_23
  · refine lv_iload_n hx hb dX1_bad_4 rfl (lv_at hl 1 rfl) ?_
    refine lv_aload_n hx hb dX1_bad_5 rfl (lv_at hl 0 rfl) ?_
    refine va_get (D := D) (ci := 1) (v := .int (nI c)) (C := RX1) (T := TX1) (N := 5) hx hb hts in_X1 hown hK hP 0 rfl rfl 1 (by decide) (hts _ q213) (fun _ h9 => h9) rfl dX1_bad_6 ?_
    refine lv_icmp_ge (tgt := 18) hx hb dX1_bad_9 (by decide) (fun c_9 => ?_) (fun c_9 => ?_)
    · refine lv_iconst (v := 1) hx hb dX1_bad_18 (by decide) ?_
      refine lv_goto (tgt := 23) hx hb dX1_bad_19 (by decide) ?_
      exact g_retz hx hb hr hlocks rfl (by unfold isB; rw [if_neg c_1, if_pos c_9]) dX1_bad_23
    · refine lv_iload_n hx hb dX1_bad_12 rfl (lv_at hl 1 rfl) ?_
      refine lv_bipush (v := 8) hx hb dX1_bad_13 (by decide) ?_
      refine lv_icmp_le (tgt := 22) hx hb dX1_bad_15 (by decide) (fun c_15 => ?_) (fun c_15 => ?_)
      · refine lv_iconst (v := 0) hx hb dX1_bad_22 (by decide) ?_
        exact g_retz hx hb hr hlocks rfl (by unfold isB; rw [if_neg c_1, if_neg c_9]) dX1_bad_23
      · obtain ⟨j, hj, e⟩ := nI_of c_1
        exact absurd (by rw [e]; exact (nI_leI (b := 8) hj (by decide)).mpr (by have := c_9; rw [e] at this; have z : ¬ c ≤ j := fun z => this ((nI_leI (by omega) hj).mpr z); omega)) c_15

set_option maxHeartbeats 4000000 in
theorem mX0_ones (l : Launch) (p0 : Int32) : Met l yX0_ones (ws_ yX0_ones cX0_ones 3 (some .int)) ({ frames := 0, cells := 0, slots := 0, locals := 0 } : Room) (sPc [.int p0]) (QcRead (onesF p0 9)) 0 0 (fun _ => False) := by
  refine s_met (by decide) (Nat.le_of_ble_eq_true rfl) ?_
  intro p e s m below meth cd hx hb hr hml hown hts hlocks ls hl
  have hown : s.vm.findClass RX0 = some m.cls := hown
  have hl : lv_has ls 3 [(0, .int p0)] := hl
  refine lv_iconst (v := 0) hx hb dX0_ones_0 (by decide) ?_
  refine lv_istore_n (lv' := [(1, .int 0), (0, .int p0)]) hx hb dX0_ones_1 rfl hl (by decide) rfl (fun ls hl => ?_)
  refine lv_iconst (v := 0) hx hb dX0_ones_2 (by decide) ?_
  refine lv_istore_n (lv' := [(2, .int 0), (1, .int 0), (0, .int p0)]) hx hb dX0_ones_3 rfl hl (by decide) rfl (fun ls hl => ?_)
  refine g_loop (pc := 4) (P := fun n ls => ∃ (k : Nat) (x : Int32), (k + n = 9) ∧ (x = onesF p0 k) ∧ lv_has ls 3 [(0, .int p0), (1, .int x), (2, .int (nI k))]) ?_ (9) _ ⟨0, 0, Nat.zero_add _, rfl, lv_sub hl [2, 1, 0] rfl⟩
  intro n ls hh ih
  obtain ⟨k, x, hk, ex, hl⟩ := hh
  refine lv_iload_n hx hb dX0_ones_4 rfl (lv_at hl 2 rfl) ?_
  refine lv_bipush (v := 9) hx hb dX0_ones_5 (by decide) ?_
  refine lv_icmp_ge (tgt := 24) hx hb dX0_ones_7 (by decide) (fun c_7 => ?_) (fun c_7 => ?_)
  · have hkc : k = 9 := c_eq (by omega) (by omega) c_7
    subst hkc
    refine lv_iload_n hx hb dX0_ones_24 rfl (lv_at hl 1 rfl) ?_
    exact g_ret hx hb hr hlocks (ex) dX0_ones_25
  · have hlt : k < 9 := c_lt (by omega) (by omega) c_7
    refine lv_iload_n hx hb dX0_ones_10 rfl (lv_at hl 1 rfl) ?_
    refine lv_iload_n hx hb dX0_ones_11 rfl (lv_at hl 0 rfl) ?_
    refine lv_iload_n hx hb dX0_ones_12 rfl (lv_at hl 2 rfl) ?_
    refine lv_ishr hx hb dX0_ones_13 ?_
    refine lv_iconst (v := 1) hx hb dX0_ones_14 (by decide) ?_
    refine lv_iand hx hb dX0_ones_15 ?_
    refine lv_iadd hx hb dX0_ones_16 ?_
    refine lv_istore_n (lv' := [(1, .int (x + ((p0 >>> ((nI k) &&& 31)) &&& 1))), (0, .int p0), (2, .int (nI k))]) hx hb dX0_ones_17 rfl hl (by decide) rfl (fun ls hl => ?_)
    refine lv_iinc (v := nI (k + 1)) (lv' := [(2, .int (nI (k + 1))), (1, .int (x + ((p0 >>> ((nI k) &&& 31)) &&& 1))), (0, .int p0)]) hx hb dX0_ones_18 hl (k := 2) rfl (inc1 _) (by decide) rfl (fun ls hl => ?_)
    refine lv_goto (tgt := 4) hx hb dX0_ones_21 (by decide) ?_
    exact ih (n - 1) _ (by omega) ⟨(k + 1), (x + ((p0 >>> ((nI k) &&& 31)) &&& 1)), by omega, by rw [ex]; rfl, lv_sub hl [2, 1, 0] rfl⟩

set_option maxHeartbeats 4000000 in
theorem mX1_size (l : Launch) (D : va_G) (q : Nat → Nat) (d : Nat → ClassId) (lt : Nat → Int32) (pm : Nat → Int32) (ab : Nat → Int32) (dm : Int32) (c : Nat) (p0 : Int32) : Met l yX1_size (ws_ yX1_size cX1_size 4 (some .int)) ({ frames := 0, cells := 0, slots := 0, locals := 0 } : Room) (gPc D (mw q d lt pm ab dm (nI c)) (mt d) [.ref (q 0), .int p0]) (QcRead (onesF p0 10)) 0 0 (fun _ => False) := by
  refine g_met (by decide) (Nat.le_of_ble_eq_true rfl) ?_
  intro p e s m below meth cd hx hb hr hml hown hts hlocks hname hP hK ls hl
  have hown : s.vm.findClass RX1 = some m.cls := hown
  have hl : lv_has ls 4 [(0, .ref (q 0)), (1, .int p0)] := hl
  refine lv_iconst (v := 0) hx hb dX1_size_0 (by decide) ?_
  refine lv_istore_n (lv' := [(2, .int 0), (0, .ref (q 0)), (1, .int p0)]) hx hb dX1_size_1 rfl hl (by decide) rfl (fun ls hl => ?_)
  refine lv_iconst (v := 0) hx hb dX1_size_2 (by decide) ?_
  refine lv_istore_n (lv' := [(3, .int 0), (2, .int 0), (0, .ref (q 0)), (1, .int p0)]) hx hb dX1_size_3 rfl hl (by decide) rfl (fun ls hl => ?_)
  refine g_loop (pc := 4) (P := fun n ls => ∃ (k : Nat) (x : Int32), (k + n = 10) ∧ (x = onesF p0 k) ∧ lv_has ls 4 [(0, .ref (q 0)), (1, .int p0), (2, .int x), (3, .int (nI k))]) ?_ (10) _ ⟨0, 0, Nat.zero_add _, rfl, lv_sub hl [2, 3, 1, 0] rfl⟩
  intro n ls hh ih
  obtain ⟨k, x, hk, ex, hl⟩ := hh
  refine lv_iload_n hx hb dX1_size_4 rfl (lv_at hl 3 rfl) ?_
  refine lv_bipush (v := 10) hx hb dX1_size_5 (by decide) ?_
  refine lv_icmp_ge (tgt := 24) hx hb dX1_size_7 (by decide) (fun c_7 => ?_) (fun c_7 => ?_)
  · have hkc : k = 10 := c_eq (by omega) (by omega) c_7
    subst hkc
    refine lv_iload_n hx hb dX1_size_24 rfl (lv_at hl 2 rfl) ?_
    exact g_ret hx hb hr hlocks (ex) dX1_size_25
  · have hlt : k < 10 := c_lt (by omega) (by omega) c_7
    refine lv_iload_n hx hb dX1_size_10 rfl (lv_at hl 2 rfl) ?_
    refine lv_iload_n hx hb dX1_size_11 rfl (lv_at hl 1 rfl) ?_
    refine lv_iload_n hx hb dX1_size_12 rfl (lv_at hl 3 rfl) ?_
    refine lv_ishr hx hb dX1_size_13 ?_
    refine lv_iconst (v := 1) hx hb dX1_size_14 (by decide) ?_
    refine lv_iand hx hb dX1_size_15 ?_
    refine lv_iadd hx hb dX1_size_16 ?_
    refine lv_istore_n (lv' := [(2, .int (x + ((p0 >>> ((nI k) &&& 31)) &&& 1))), (0, .ref (q 0)), (1, .int p0), (3, .int (nI k))]) hx hb dX1_size_17 rfl hl (by decide) rfl (fun ls hl => ?_)
    refine lv_iinc (v := nI (k + 1)) (lv' := [(3, .int (nI (k + 1))), (2, .int (x + ((p0 >>> ((nI k) &&& 31)) &&& 1))), (0, .ref (q 0)), (1, .int p0)]) hx hb dX1_size_18 hl (k := 3) rfl (inc1 _) (by decide) rfl (fun ls hl => ?_)
    refine lv_goto (tgt := 4) hx hb dX1_size_21 (by decide) ?_
    exact ih (n - 1) _ (by omega) ⟨(k + 1), (x + ((p0 >>> ((nI k) &&& 31)) &&& 1)), by omega, by rw [ex]; rfl, lv_sub hl [2, 3, 1, 0] rfl⟩

set_option maxHeartbeats 4000000 in
theorem mX0_wordOf (l : Launch) (p0 : Int32) : Met l yX0_wordOf (ws_ yX0_wordOf cX0_wordOf 4 (some .int)) ({ frames := 0, cells := 0, slots := 0, locals := 0 } : Room) (sPc [.int p0]) (QcRead (wrdF p0 32)) 0 0 (fun _ => False) := by
  refine s_met (by decide) (Nat.le_of_ble_eq_true rfl) ?_
  intro p e s m below meth cd hx hb hr hml hown hts hlocks ls hl
  have hown : s.vm.findClass RX0 = some m.cls := hown
  have hl : lv_has ls 4 [(0, .int p0)] := hl
  refine lv_iconst (v := 0) hx hb dX0_wordOf_0 (by decide) ?_
  refine lv_istore_n (lv' := [(1, .int 0), (0, .int p0)]) hx hb dX0_wordOf_1 rfl hl (by decide) rfl (fun ls hl => ?_)
  refine lv_iconst (v := 0) hx hb dX0_wordOf_2 (by decide) ?_
  refine lv_istore_n (lv' := [(2, .int 0), (1, .int 0), (0, .int p0)]) hx hb dX0_wordOf_3 rfl hl (by decide) rfl (fun ls hl => ?_)
  refine g_loop (pc := 4) (P := fun n ls => ∃ (k : Nat) (x : Int32), (k + n = 32) ∧ (x = wrdF p0 k) ∧ lv_has ls 4 [(0, .int p0), (1, .int x), (2, .int (nI k))]) ?_ (32) _ ⟨0, 0, Nat.zero_add _, rfl, lv_sub hl [2, 1, 0] rfl⟩
  intro n ls hh ih
  obtain ⟨k, x, hk, ex, hl⟩ := hh
  refine lv_iload_n hx hb dX0_wordOf_4 rfl (lv_at hl 2 rfl) ?_
  refine lv_bipush (v := 32) hx hb dX0_wordOf_5 (by decide) ?_
  refine lv_icmp_ge (tgt := 34) hx hb dX0_wordOf_7 (by decide) (fun c_7 => ?_) (fun c_7 => ?_)
  · have hkc : k = 32 := c_eq (by omega) (by omega) c_7
    subst hkc
    refine lv_iload_n hx hb dX0_wordOf_34 rfl (lv_at hl 1 rfl) ?_
    exact g_ret hx hb hr hlocks (ex) dX0_wordOf_35
  · have hlt : k < 32 := c_lt (by omega) (by omega) c_7
    refine lv_iload_n hx hb dX0_wordOf_10 rfl (lv_at hl 2 rfl) ?_
    refine lv_iload_n hx hb dX0_wordOf_11 rfl (lv_at hl 0 rfl) ?_
    refine lv_iconst (v := 1) hx hb dX0_wordOf_12 (by decide) ?_
    refine lv_ishr hx hb dX0_wordOf_13 ?_
    refine lv_ishr hx hb dX0_wordOf_14 ?_
    refine lv_iconst (v := 1) hx hb dX0_wordOf_15 (by decide) ?_
    refine lv_iand hx hb dX0_wordOf_16 ?_
    refine lv_iload_n hx hb dX0_wordOf_17 rfl (lv_at hl 0 rfl) ?_
    refine lv_iconst (v := 1) hx hb dX0_wordOf_18 (by decide) ?_
    refine lv_iand hx hb dX0_wordOf_19 ?_
    refine lv_ixor hx hb dX0_wordOf_20 ?_
    refine lv_istore_n (lv' := [(3, .int ((((nI k) >>> ((p0 >>> (1 &&& 31)) &&& 31)) &&& 1) ^^^ (p0 &&& 1))), (0, .int p0), (1, .int x), (2, .int (nI k))]) hx hb dX0_wordOf_21 rfl hl (by decide) rfl (fun ls hl => ?_)
    refine lv_iload_n hx hb dX0_wordOf_22 rfl (lv_at hl 2 rfl) ?_
    refine lv_iload_n hx hb dX0_wordOf_23 rfl (lv_at hl 0 rfl) ?_
    refine lv_iload_n hx hb dX0_wordOf_24 rfl (lv_at hl 3 rfl) ?_
    refine lv_ishl hx hb dX0_wordOf_25 ?_
    refine lv_ior hx hb dX0_wordOf_26 ?_
    refine lv_istore_n (lv' := [(1, .int (x ||| (((((nI k) >>> ((p0 >>> (1 &&& 31)) &&& 31)) &&& 1) ^^^ (p0 &&& 1)) <<< ((nI k) &&& 31)))), (3, .int ((((nI k) >>> ((p0 >>> (1 &&& 31)) &&& 31)) &&& 1) ^^^ (p0 &&& 1))), (0, .int p0), (2, .int (nI k))]) hx hb dX0_wordOf_27 rfl hl (by decide) rfl (fun ls hl => ?_)
    refine lv_iinc (v := nI (k + 1)) (lv' := [(2, .int (nI (k + 1))), (1, .int (x ||| (((((nI k) >>> ((p0 >>> (1 &&& 31)) &&& 31)) &&& 1) ^^^ (p0 &&& 1)) <<< ((nI k) &&& 31)))), (3, .int ((((nI k) >>> ((p0 >>> (1 &&& 31)) &&& 31)) &&& 1) ^^^ (p0 &&& 1))), (0, .int p0)]) hx hb dX0_wordOf_28 hl (k := 3) rfl (inc1 _) (by decide) rfl (fun ls hl => ?_)
    refine lv_goto (tgt := 4) hx hb dX0_wordOf_31 (by decide) ?_
    exact ih (n - 1) _ (by omega) ⟨(k + 1), (x ||| (((((nI k) >>> ((p0 >>> (1 &&& 31)) &&& 31)) &&& 1) ^^^ (p0 &&& 1)) <<< ((nI k) &&& 31))), by omega, by rw [ex]; rfl, lv_sub hl [3, 1, 0] rfl⟩

set_option maxHeartbeats 4000000 in
theorem mX0_common (l : Launch) (D : va_G) (q : Nat → Nat) (d : Nat → ClassId) (w : Nat → Int32) (pr : Nat → Int32) (dr : Nat → Int32) (kl : Nat → Int32) (fl : Nat → Int32) (wt : Nat → Int32) (c : Nat) (ds : Int32) (kc : Int32) (fc : Int32) (sv : Int32) (p0 : Int32) (hc9 : c ≤ 9) : Met l yX0_common (ws_ yX0_common cX0_common 4 (some .int)) ({ frames := 0, cells := 0, slots := 0, locals := 0 } : Room) (gPc D (xw q d w pr dr kl fl wt (nI c) ds kc fc sv) (xt d) [.ref (q 0), .int p0]) (QcRead (comF w p0 c)) 0 0 (fun _ => False) := by
  refine g_met (by decide) (Nat.le_of_ble_eq_true rfl) ?_
  intro p e s m below meth cd hx hb hr hml hown hts hlocks hname hP hK ls hl
  have hown : s.vm.findClass RX0 = some m.cls := hown
  have hl : lv_has ls 4 [(0, .ref (q 0)), (1, .int p0)] := hl
  refine lv_iconst (v := (-1)) hx hb dX0_common_0 (by decide) ?_
  refine lv_istore_n (lv' := [(2, .int (-1)), (0, .ref (q 0)), (1, .int p0)]) hx hb dX0_common_1 rfl hl (by decide) rfl (fun ls hl => ?_)
  refine lv_iconst (v := 0) hx hb dX0_common_2 (by decide) ?_
  refine lv_istore_n (lv' := [(3, .int 0), (2, .int (-1)), (0, .ref (q 0)), (1, .int p0)]) hx hb dX0_common_3 rfl hl (by decide) rfl (fun ls hl => ?_)
  refine g_loop (pc := 4) (P := fun n ls => ∃ (k : Nat) (x : Int32), (k + n = c) ∧ (x = comF w p0 k) ∧ lv_has ls 4 [(0, .ref (q 0)), (1, .int p0), (2, .int x), (3, .int (nI k))]) ?_ (c) _ ⟨0, (-1), Nat.zero_add _, rfl, lv_sub hl [2, 3, 1, 0] rfl⟩
  intro n ls hh ih
  obtain ⟨k, x, hk, ex, hl⟩ := hh
  refine lv_iload_n hx hb dX0_common_4 rfl (lv_at hl 3 rfl) ?_
  refine lv_aload_n hx hb dX0_common_5 rfl (lv_at hl 0 rfl) ?_
  refine va_get (D := D) (ci := 0) (v := .int (nI c)) (C := RX0) (T := TX0) (N := 11) hx hb hts in_X0 hown hK hP 0 rfl rfl 6 (by decide) (hts _ q42) (fun _ h9 => h9) rfl dX0_common_6 ?_
  refine lv_icmp_ge (tgt := 36) hx hb dX0_common_9 (by decide) (fun c_9 => ?_) (fun c_9 => ?_)
  · have hkc : k = c := c_eq (by omega) (by omega) c_9
    subst hkc
    refine lv_iload_n hx hb dX0_common_36 rfl (lv_at hl 2 rfl) ?_
    exact g_ret hx hb hr hlocks (ex) dX0_common_37
  · have hlt : k < c := c_lt (by omega) (by omega) c_9
    refine lv_iload_n hx hb dX0_common_12 rfl (lv_at hl 1 rfl) ?_
    refine lv_iload_n hx hb dX0_common_13 rfl (lv_at hl 3 rfl) ?_
    refine lv_ishr hx hb dX0_common_14 ?_
    refine lv_iconst (v := 1) hx hb dX0_common_15 (by decide) ?_
    refine lv_iand hx hb dX0_common_16 ?_
    refine lv_iconst (v := 1) hx hb dX0_common_17 (by decide) ?_
    refine lv_icmp_ne (tgt := 30) hx hb dX0_common_18 (by decide) (fun c_18 => ?_) (fun c_18 => ?_)
    · refine lv_iinc (v := nI (k + 1)) (lv' := [(3, .int (nI (k + 1))), (0, .ref (q 0)), (1, .int p0), (2, .int x)]) hx hb dX0_common_30 hl (k := 3) rfl (inc1 _) (by decide) rfl (fun ls hl => ?_)
      refine lv_goto (tgt := 4) hx hb dX0_common_33 (by decide) ?_
      exact ih (n - 1) _ (by omega) ⟨(k + 1), x, by omega, by rw [ex]; first | exact (comF_t c_18).symm | exact (comF_f c_18).symm, lv_sub hl [1, 2, 3, 0] rfl⟩
    · refine lv_iload_n hx hb dX0_common_21 rfl (lv_at hl 2 rfl) ?_
      refine lv_aload_n hx hb dX0_common_22 rfl (lv_at hl 0 rfl) ?_
      refine va_get (D := D) (ci := 0) (v := .ref (q 1)) (C := RX0) (T := TX0) (N := 11) hx hb hts in_X0 hown hK hP 0 rfl rfl 0 (by decide) (hts _ q36) (fun _ h9 => h9) rfl dX0_common_23 ?_
      refine lv_iload_n hx hb dX0_common_26 rfl (lv_at hl 3 rfl) ?_
      refine g_iald hx hb hK hP 1 0 rfl rfl (k := k) (by omega) (by decide) dX0_common_27 ?_
      refine lv_iand hx hb dX0_common_28 ?_
      refine lv_istore_n (lv' := [(2, .int (x &&& (w k))), (0, .ref (q 0)), (1, .int p0), (3, .int (nI k))]) hx hb dX0_common_29 rfl hl (by decide) rfl (fun ls hl => ?_)
      refine lv_iinc (v := nI (k + 1)) (lv' := [(3, .int (nI (k + 1))), (2, .int (x &&& (w k))), (0, .ref (q 0)), (1, .int p0)]) hx hb dX0_common_30 hl (k := 3) rfl (inc1 _) (by decide) rfl (fun ls hl => ?_)
      refine lv_goto (tgt := 4) hx hb dX0_common_33 (by decide) ?_
      exact ih (n - 1) _ (by omega) ⟨(k + 1), (x &&& (w k)), by omega, by rw [ex]; first | exact (comF_t c_18).symm | exact (comF_f c_18).symm, lv_sub hl [2, 3, 1, 0] rfl⟩

set_option maxHeartbeats 4000000 in
theorem mX0_priceOf (l : Launch) (D : va_G) (q : Nat → Nat) (d : Nat → ClassId) (w : Nat → Int32) (pr : Nat → Int32) (dr : Nat → Int32) (kl : Nat → Int32) (fl : Nat → Int32) (wt : Nat → Int32) (c : Nat) (ds : Int32) (kc : Int32) (fc : Int32) (sv : Int32) (p0 : Int32) (hc9 : c ≤ 9) : Met l yX0_priceOf (ws_ yX0_priceOf cX0_priceOf 4 (some .int)) ({ frames := 0, cells := 0, slots := 0, locals := 0 } : Room) (gPc D (xw q d w pr dr kl fl wt (nI c) ds kc fc sv) (xt d) [.ref (q 0), .int p0]) (QcRead (priF pr p0 c)) 0 0 (fun _ => False) := by
  refine g_met (by decide) (Nat.le_of_ble_eq_true rfl) ?_
  intro p e s m below meth cd hx hb hr hml hown hts hlocks hname hP hK ls hl
  have hown : s.vm.findClass RX0 = some m.cls := hown
  have hl : lv_has ls 4 [(0, .ref (q 0)), (1, .int p0)] := hl
  refine lv_iconst (v := 0) hx hb dX0_priceOf_0 (by decide) ?_
  refine lv_istore_n (lv' := [(2, .int 0), (0, .ref (q 0)), (1, .int p0)]) hx hb dX0_priceOf_1 rfl hl (by decide) rfl (fun ls hl => ?_)
  refine lv_iconst (v := 0) hx hb dX0_priceOf_2 (by decide) ?_
  refine lv_istore_n (lv' := [(3, .int 0), (2, .int 0), (0, .ref (q 0)), (1, .int p0)]) hx hb dX0_priceOf_3 rfl hl (by decide) rfl (fun ls hl => ?_)
  refine g_loop (pc := 4) (P := fun n ls => ∃ (k : Nat) (x : Int32), (k + n = c) ∧ (x = priF pr p0 k) ∧ lv_has ls 4 [(0, .ref (q 0)), (1, .int p0), (2, .int x), (3, .int (nI k))]) ?_ (c) _ ⟨0, 0, Nat.zero_add _, rfl, lv_sub hl [2, 3, 1, 0] rfl⟩
  intro n ls hh ih
  obtain ⟨k, x, hk, ex, hl⟩ := hh
  refine lv_iload_n hx hb dX0_priceOf_4 rfl (lv_at hl 3 rfl) ?_
  refine lv_aload_n hx hb dX0_priceOf_5 rfl (lv_at hl 0 rfl) ?_
  refine va_get (D := D) (ci := 0) (v := .int (nI c)) (C := RX0) (T := TX0) (N := 11) hx hb hts in_X0 hown hK hP 0 rfl rfl 6 (by decide) (hts _ q42) (fun _ h9 => h9) rfl dX0_priceOf_6 ?_
  refine lv_icmp_ge (tgt := 40) hx hb dX0_priceOf_9 (by decide) (fun c_9 => ?_) (fun c_9 => ?_)
  · have hkc : k = c := c_eq (by omega) (by omega) c_9
    subst hkc
    refine lv_iload_n hx hb dX0_priceOf_40 rfl (lv_at hl 2 rfl) ?_
    exact g_ret hx hb hr hlocks (ex) dX0_priceOf_41
  · have hlt : k < c := c_lt (by omega) (by omega) c_9
    refine lv_iload_n hx hb dX0_priceOf_12 rfl (lv_at hl 2 rfl) ?_
    refine lv_iload_n hx hb dX0_priceOf_13 rfl (lv_at hl 1 rfl) ?_
    refine lv_iload_n hx hb dX0_priceOf_14 rfl (lv_at hl 3 rfl) ?_
    refine lv_ishr hx hb dX0_priceOf_15 ?_
    refine lv_iconst (v := 1) hx hb dX0_priceOf_16 (by decide) ?_
    refine lv_iand hx hb dX0_priceOf_17 ?_
    refine lv_iconst (v := 1) hx hb dX0_priceOf_18 (by decide) ?_
    refine lv_icmp_ne (tgt := 31) hx hb dX0_priceOf_19 (by decide) (fun c_19 => ?_) (fun c_19 => ?_)
    · refine lv_iconst (v := 0) hx hb dX0_priceOf_31 (by decide) ?_
      refine lv_iadd hx hb dX0_priceOf_32 ?_
      refine lv_istore_n (lv' := [(2, .int (x + 0)), (0, .ref (q 0)), (1, .int p0), (3, .int (nI k))]) hx hb dX0_priceOf_33 rfl hl (by decide) rfl (fun ls hl => ?_)
      refine lv_iinc (v := nI (k + 1)) (lv' := [(3, .int (nI (k + 1))), (2, .int (x + 0)), (0, .ref (q 0)), (1, .int p0)]) hx hb dX0_priceOf_34 hl (k := 3) rfl (inc1 _) (by decide) rfl (fun ls hl => ?_)
      refine lv_goto (tgt := 4) hx hb dX0_priceOf_37 (by decide) ?_
      exact ih (n - 1) _ (by omega) ⟨(k + 1), (x + 0), by omega, by rw [ex]; first | exact (priF_t c_19).symm | exact (priF_f c_19).symm, lv_sub hl [2, 3, 1, 0] rfl⟩
    · refine lv_aload_n hx hb dX0_priceOf_22 rfl (lv_at hl 0 rfl) ?_
      refine va_get (D := D) (ci := 0) (v := .ref (q 2)) (C := RX0) (T := TX0) (N := 11) hx hb hts in_X0 hown hK hP 0 rfl rfl 1 (by decide) (hts _ q37) (fun _ h9 => h9) rfl dX0_priceOf_23 ?_
      refine lv_iload_n hx hb dX0_priceOf_26 rfl (lv_at hl 3 rfl) ?_
      refine g_iald hx hb hK hP 2 1 rfl rfl (k := k) (by omega) (by decide) dX0_priceOf_27 ?_
      refine lv_goto (tgt := 32) hx hb dX0_priceOf_28 (by decide) ?_
      refine lv_iadd hx hb dX0_priceOf_32 ?_
      refine lv_istore_n (lv' := [(2, .int (x + (pr k))), (0, .ref (q 0)), (1, .int p0), (3, .int (nI k))]) hx hb dX0_priceOf_33 rfl hl (by decide) rfl (fun ls hl => ?_)
      refine lv_iinc (v := nI (k + 1)) (lv' := [(3, .int (nI (k + 1))), (2, .int (x + (pr k))), (0, .ref (q 0)), (1, .int p0)]) hx hb dX0_priceOf_34 hl (k := 3) rfl (inc1 _) (by decide) rfl (fun ls hl => ?_)
      refine lv_goto (tgt := 4) hx hb dX0_priceOf_37 (by decide) ?_
      exact ih (n - 1) _ (by omega) ⟨(k + 1), (x + (pr k)), by omega, by rw [ex]; first | exact (priF_t c_19).symm | exact (priF_f c_19).symm, lv_sub hl [2, 3, 1, 0] rfl⟩

set_option maxHeartbeats 4000000 in
theorem mX1_worth (l : Launch) (D : va_G) (q : Nat → Nat) (d : Nat → ClassId) (lt : Nat → Int32) (pm : Nat → Int32) (ab : Nat → Int32) (dm : Int32) (c : Nat) (p0 : Int32) (hc9 : c ≤ 9) : Met l yX1_worth (ws_ yX1_worth cX1_worth 4 (some .int)) ({ frames := 0, cells := 0, slots := 0, locals := 0 } : Room) (gPc D (mw q d lt pm ab dm (nI c)) (mt d) [.ref (q 0), .int p0]) (QcRead (priF pm p0 c)) 0 0 (fun _ => False) := by
  refine g_met (by decide) (Nat.le_of_ble_eq_true rfl) ?_
  intro p e s m below meth cd hx hb hr hml hown hts hlocks hname hP hK ls hl
  have hown : s.vm.findClass RX1 = some m.cls := hown
  have hl : lv_has ls 4 [(0, .ref (q 0)), (1, .int p0)] := hl
  refine lv_iconst (v := 0) hx hb dX1_worth_0 (by decide) ?_
  refine lv_istore_n (lv' := [(2, .int 0), (0, .ref (q 0)), (1, .int p0)]) hx hb dX1_worth_1 rfl hl (by decide) rfl (fun ls hl => ?_)
  refine lv_iconst (v := 0) hx hb dX1_worth_2 (by decide) ?_
  refine lv_istore_n (lv' := [(3, .int 0), (2, .int 0), (0, .ref (q 0)), (1, .int p0)]) hx hb dX1_worth_3 rfl hl (by decide) rfl (fun ls hl => ?_)
  refine g_loop (pc := 4) (P := fun n ls => ∃ (k : Nat) (x : Int32), (k + n = c) ∧ (x = priF pm p0 k) ∧ lv_has ls 4 [(0, .ref (q 0)), (1, .int p0), (2, .int x), (3, .int (nI k))]) ?_ (c) _ ⟨0, 0, Nat.zero_add _, rfl, lv_sub hl [2, 3, 1, 0] rfl⟩
  intro n ls hh ih
  obtain ⟨k, x, hk, ex, hl⟩ := hh
  refine lv_iload_n hx hb dX1_worth_4 rfl (lv_at hl 3 rfl) ?_
  refine lv_aload_n hx hb dX1_worth_5 rfl (lv_at hl 0 rfl) ?_
  refine va_get (D := D) (ci := 1) (v := .int (nI c)) (C := RX1) (T := TX1) (N := 5) hx hb hts in_X1 hown hK hP 0 rfl rfl 1 (by decide) (hts _ q213) (fun _ h9 => h9) rfl dX1_worth_6 ?_
  refine lv_icmp_ge (tgt := 42) hx hb dX1_worth_9 (by decide) (fun c_9 => ?_) (fun c_9 => ?_)
  · have hkc : k = c := c_eq (by omega) (by omega) c_9
    subst hkc
    refine lv_iload_n hx hb dX1_worth_42 rfl (lv_at hl 2 rfl) ?_
    exact g_ret hx hb hr hlocks (ex) dX1_worth_43
  · have hlt : k < c := c_lt (by omega) (by omega) c_9
    refine lv_iload_n hx hb dX1_worth_12 rfl (lv_at hl 3 rfl) ?_
    refine lv_bipush (v := 9) hx hb dX1_worth_13 (by decide) ?_
    refine lv_icmp_ge (tgt := 42) hx hb dX1_worth_15 (by decide) (fun c_15 => ?_) (fun c_15 => ?_)
    · exact absurd c_15 (nI_ge (b := 9) (by omega) (by decide))
    · refine lv_iload_n hx hb dX1_worth_18 rfl (lv_at hl 1 rfl) ?_
      refine lv_iload_n hx hb dX1_worth_19 rfl (lv_at hl 3 rfl) ?_
      refine lv_ishr hx hb dX1_worth_20 ?_
      refine lv_iconst (v := 1) hx hb dX1_worth_21 (by decide) ?_
      refine lv_iand hx hb dX1_worth_22 ?_
      refine lv_iconst (v := 1) hx hb dX1_worth_23 (by decide) ?_
      refine lv_icmp_ne (tgt := 36) hx hb dX1_worth_24 (by decide) (fun c_24 => ?_) (fun c_24 => ?_)
      · refine lv_iinc (v := nI (k + 1)) (lv' := [(3, .int (nI (k + 1))), (0, .ref (q 0)), (1, .int p0), (2, .int x)]) hx hb dX1_worth_36 hl (k := 3) rfl (inc1 _) (by decide) rfl (fun ls hl => ?_)
        refine lv_goto (tgt := 4) hx hb dX1_worth_39 (by decide) ?_
        exact ih (n - 1) _ (by omega) ⟨(k + 1), x, by omega, by rw [ex]; first | exact (priF_t c_24).symm | exact ((priF_f c_24).trans (Int32.add_zero _)).symm, lv_sub hl [1, 2, 3, 0] rfl⟩
      · refine lv_iload_n hx hb dX1_worth_27 rfl (lv_at hl 2 rfl) ?_
        refine lv_aload_n hx hb dX1_worth_28 rfl (lv_at hl 0 rfl) ?_
        refine va_get (D := D) (ci := 1) (v := .ref (q 2)) (C := RX1) (T := TX1) (N := 5) hx hb hts in_X1 hown hK hP 0 rfl rfl 3 (by decide) (hts _ q215) (fun _ h9 => h9) rfl dX1_worth_29 ?_
        refine lv_iload_n hx hb dX1_worth_32 rfl (lv_at hl 3 rfl) ?_
        refine g_iald hx hb hK hP 2 1 rfl rfl (k := k) (by omega) (by decide) dX1_worth_33 ?_
        refine lv_iadd hx hb dX1_worth_34 ?_
        refine lv_istore_n (lv' := [(2, .int (x + (pm k))), (0, .ref (q 0)), (1, .int p0), (3, .int (nI k))]) hx hb dX1_worth_35 rfl hl (by decide) rfl (fun ls hl => ?_)
        refine lv_iinc (v := nI (k + 1)) (lv' := [(3, .int (nI (k + 1))), (2, .int (x + (pm k))), (0, .ref (q 0)), (1, .int p0)]) hx hb dX1_worth_36 hl (k := 3) rfl (inc1 _) (by decide) rfl (fun ls hl => ?_)
        refine lv_goto (tgt := 4) hx hb dX1_worth_39 (by decide) ?_
        exact ih (n - 1) _ (by omega) ⟨(k + 1), (x + (pm k)), by omega, by rw [ex]; first | exact (priF_t c_24).symm | exact ((priF_f c_24).trans (Int32.add_zero _)).symm, lv_sub hl [2, 3, 1, 0] rfl⟩

set_option maxHeartbeats 4000000 in
theorem mX0_waits (l : Launch) (D : va_G) (q : Nat → Nat) (d : Nat → ClassId) (w : Nat → Int32) (pr : Nat → Int32) (dr : Nat → Int32) (kl : Nat → Int32) (fl : Nat → Int32) (wt : Nat → Int32) (c : Nat) (ds : Int32) (kc : Int32) (fc : Int32) (sv : Int32) (t : Nat) (ht : t < 512) : Met l yX0_waits (ws_ yX0_waits cX0_waits 2 (some .boolean)) ({ frames := 0, cells := 0, slots := 0, locals := 0 } : Room) (gPc D (xw q d w pr dr kl fl wt (nI c) ds kc fc sv) (xt d) [.ref (q 0), .int (nI t)]) (QcRead (b2i (wtB wt t))) 0 0 (fun _ => False) := by
  refine g_met (by decide) (Nat.le_of_ble_eq_true rfl) ?_
  intro p e s m below meth cd hx hb hr hml hown hts hlocks hname hP hK ls hl
  have hown : s.vm.findClass RX0 = some m.cls := hown
  have hl : lv_has ls 2 [(0, .ref (q 0)), (1, .int (nI t))] := hl
  refine lv_aload_n hx hb dX0_waits_0 rfl (lv_at hl 0 rfl) ?_
  refine va_get (D := D) (ci := 0) (v := .ref (q 6)) (C := RX0) (T := TX0) (N := 11) hx hb hts in_X0 hown hK hP 0 rfl rfl 5 (by decide) (hts _ q41) (fun _ h9 => h9) rfl dX0_waits_1 ?_
  refine lv_iload_n hx hb dX0_waits_4 rfl (lv_at hl 1 rfl) ?_
  refine lv_iconst (v := 5) hx hb dX0_waits_5 (by decide) ?_
  refine lv_ishr hx hb dX0_waits_6 ?_
  refine g_tw (y := nI (t / 32)) (sh5 ht) ?_
  refine g_iald hx hb hK hP 6 5 rfl rfl (k := (t / 32)) (by omega) (by decide) dX0_waits_7 ?_
  refine lv_iload_n hx hb dX0_waits_8 rfl (lv_at hl 1 rfl) ?_
  refine lv_bipush (v := 31) hx hb dX0_waits_9 (by decide) ?_
  refine lv_iand hx hb dX0_waits_11 ?_
  refine g_tw (y := nI (t % 32)) (an31 t) ?_
  refine lv_iushr hx hb dX0_waits_12 rfl ?_
  refine lv_iconst (v := 1) hx hb dX0_waits_13 (by decide) ?_
  refine lv_iand hx hb dX0_waits_14 ?_
  refine g_tw (y := b2i (wtB wt t)) (ub_eq _ (by omega)) ?_
  refine lv_iconst (v := 1) hx hb dX0_waits_15 (by decide) ?_
  refine lv_icmp_ne (tgt := 23) hx hb dX0_waits_16 (by decide) (fun c_16 => ?_) (fun c_16 => ?_)
  · refine lv_iconst (v := 0) hx hb dX0_waits_23 (by decide) ?_
    exact g_retz hx hb hr hlocks rfl ((b2i_n1 c_16).symm) dX0_waits_24
  · refine lv_iconst (v := 1) hx hb dX0_waits_19 (by decide) ?_
    refine lv_goto (tgt := 24) hx hb dX0_waits_20 (by decide) ?_
    exact g_retz hx hb hr hlocks rfl (c_16.symm) dX0_waits_24

set_option maxHeartbeats 4000000 in
theorem mX0_grow (l : Launch) (D : va_G) (q : Nat → Nat) (d : Nat → ClassId) (w : Nat → Int32) (pr : Nat → Int32) (dr : Nat → Int32) (kl : Nat → Int32) (fl : Nat → Int32) (wt : Nat → Int32) (c : Nat) (ds : Int32) (kc : Int32) (fc : Int32) (sv : Int32) (t : Nat) (a : Nat) (hc9 : c ≤ 9) : Met l yX0_grow (ws_ yX0_grow cX0_grow 6 (some .int)) ({ frames := 1, cells := 0, slots := 0, locals := 23 } : Room) (gPc D (xw q d w pr dr kl fl wt (nI c) ds kc fc sv) (xt d) [.ref (q 0), .int (nI t), .int (nI a)]) (QcRead (nI (growN (okB w c) t c &&& a))) 0 0 (fun _ => False) := by
  refine g_met (by decide) (Nat.le_of_ble_eq_true rfl) ?_
  intro p e s m below meth cd hx hb hr hml hown hts hlocks hname hP hK ls hl
  have hown : s.vm.findClass RX0 = some m.cls := hown
  have hl : lv_has ls 6 [(0, .ref (q 0)), (1, .int (nI t)), (2, .int (nI a))] := hl
  refine lv_iload_n hx hb dX0_grow_0 rfl (lv_at hl 1 rfl) ?_
  refine lv_istore_n (lv' := [(3, .int (nI t)), (0, .ref (q 0)), (1, .int (nI t)), (2, .int (nI a))]) hx hb dX0_grow_1 rfl hl (by decide) rfl (fun ls hl => ?_)
  refine lv_iconst (v := 0) hx hb dX0_grow_2 (by decide) ?_
  refine lv_istore (lv' := [(4, .int 0), (3, .int (nI t)), (0, .ref (q 0)), (1, .int (nI t)), (2, .int (nI a))]) hx hb dX0_grow_3 hl (by decide) rfl (fun ls hl => ?_)
  refine g_loop (pc := 5) (P := fun n ls => ∃ (k : Nat) (x : Int32), (k + n = c) ∧ (x = nI (growN (okB w c) t k)) ∧ lv_has ls 6 [(0, .ref (q 0)), (1, .int (nI t)), (2, .int (nI a)), (3, .int x), (4, .int (nI k))]) ?_ (c) _ ⟨0, nI t, Nat.zero_add _, rfl, lv_sub hl [2, 3, 4, 1, 0] rfl⟩
  intro n ls hh ih
  obtain ⟨k, x, hk, ex, hl⟩ := hh
  refine lv_iload hx hb dX0_grow_5 (lv_at hl 4 rfl) ?_
  refine lv_aload_n hx hb dX0_grow_7 rfl (lv_at hl 0 rfl) ?_
  refine va_get (D := D) (ci := 0) (v := .int (nI c)) (C := RX0) (T := TX0) (N := 11) hx hb hts in_X0 hown hK hP 0 rfl rfl 6 (by decide) (hts _ q42) (fun _ h9 => h9) rfl dX0_grow_8 ?_
  refine lv_icmp_ge (tgt := 40) hx hb dX0_grow_11 (by decide) (fun c_11 => ?_) (fun c_11 => ?_)
  · have hkc : k = c := c_eq (by omega) (by omega) c_11
    subst hkc
    refine lv_iload_n hx hb dX0_grow_40 rfl (lv_at hl 3 rfl) ?_
    refine g_tw (y := nI (growN (okB w k) t k)) (ex) ?_
    refine lv_iload_n hx hb dX0_grow_41 rfl (lv_at hl 2 rfl) ?_
    refine lv_iand hx hb dX0_grow_42 ?_
    exact g_ret hx hb hr hlocks (nx_and _ _) dX0_grow_43
  · have hlt : k < c := c_lt (by omega) (by omega) c_11
    refine lv_iload_n hx hb dX0_grow_14 rfl (lv_at hl 3 rfl) ?_
    refine g_tw (y := nI (growN (okB w c) t k)) (ex) ?_
    refine lv_iconst (v := 1) hx hb dX0_grow_15 (by decide) ?_
    refine lv_iload hx hb dX0_grow_16 (lv_at hl 4 rfl) ?_
    refine lv_ishl hx hb dX0_grow_18 ?_
    refine g_tw (y := nI (2 ^ k)) (shl1 k (by omega)) ?_
    refine lv_ior hx hb dX0_grow_19 ?_
    refine g_tw (y := nI (growN (okB w c) t k ||| 2 ^ k)) (nx_or _ _) ?_
    refine lv_istore (lv' := [(5, .int (nI (growN (okB w c) t k ||| 2 ^ k))), (0, .ref (q 0)), (1, .int (nI t)), (2, .int (nI a)), (3, .int x), (4, .int (nI k))]) hx hb dX0_grow_20 hl (by decide) rfl (fun ls hl => ?_)
    refine lv_aload_n hx hb dX0_grow_22 rfl (lv_at hl 1 rfl) ?_
    refine lv_iload hx hb dX0_grow_23 (lv_at hl 0 rfl) ?_
    refine g_callR (W.runV (As := [.int (nI (growN (okB w c) t k ||| 2 ^ k))]) (rest := []) ⟨hx, hb, hml, hown, hts⟩ (mX0_common l D q d w pr dr kl fl wt c ds kc fc sv (nI (growN (okB w c) t k ||| 2 ^ k)) hc9) (cwV 1 hts (lw_V q110 q112 qs2 q26 q113) rfl rfl rfl (by decide +kernel) ⟨Nat.le_of_ble_eq_true rfl, Nat.le_of_ble_eq_true rfl⟩) (x_preV _ hK hP) rfl rfl hl.1 rfl (lv_room (Nat.le_of_ble_eq_true rfl)) dX0_grow_25 ⟨Nat.le_of_ble_eq_true rfl, Nat.le_of_ble_eq_true rfl⟩) ?_
    refine lv_if_eq (tgt := 34) hx hb dX0_grow_28 (by decide) (fun c_28 => ?_) (fun c_28 => ?_)
    · refine lv_iinc (v := nI (k + 1)) (lv' := [(4, .int (nI (k + 1))), (5, .int (nI (growN (okB w c) t k ||| 2 ^ k))), (0, .ref (q 0)), (1, .int (nI t)), (2, .int (nI a)), (3, .int x)]) hx hb dX0_grow_34 hl (k := 5) rfl (inc1 _) (by decide) rfl (fun ls hl => ?_)
      refine lv_goto (tgt := 5) hx hb dX0_grow_37 (by decide) ?_
      exact ih (n - 1) _ (by omega) ⟨(k + 1), x, by omega, by first | exact ex.trans (congrArg nI (growN_f (okB_f c_28)).symm) | exact congrArg nI (growN_t (okB_t c_28)).symm, lv_sub hl [2, 3, 4, 5, 0] rfl⟩
    · refine lv_iload hx hb dX0_grow_31 (lv_at hl 0 rfl) ?_
      refine lv_istore_n (lv' := [(3, .int (nI (growN (okB w c) t k ||| 2 ^ k))), (5, .int (nI (growN (okB w c) t k ||| 2 ^ k))), (0, .ref (q 0)), (1, .int (nI t)), (2, .int (nI a)), (4, .int (nI k))]) hx hb dX0_grow_33 rfl hl (by decide) rfl (fun ls hl => ?_)
      refine lv_iinc (v := nI (k + 1)) (lv' := [(4, .int (nI (k + 1))), (3, .int (nI (growN (okB w c) t k ||| 2 ^ k))), (5, .int (nI (growN (okB w c) t k ||| 2 ^ k))), (0, .ref (q 0)), (1, .int (nI t)), (2, .int (nI a))]) hx hb dX0_grow_34 hl (k := 5) rfl (inc1 _) (by decide) rfl (fun ls hl => ?_)
      refine lv_goto (tgt := 5) hx hb dX0_grow_37 (by decide) ?_
      exact ih (n - 1) _ (by omega) ⟨(k + 1), nI (growN (okB w c) t k ||| 2 ^ k), by omega, by first | exact ex.trans (congrArg nI (growN_f (okB_f c_28)).symm) | exact congrArg nI (growN_t (okB_t c_28)).symm, lv_sub hl [3, 4, 5, 1, 0] rfl⟩

set_option maxHeartbeats 4000000 in
theorem mX0_shrink (l : Launch) (D : va_G) (q : Nat → Nat) (d : Nat → ClassId) (w : Nat → Int32) (pr : Nat → Int32) (dr : Nat → Int32) (kl : Nat → Int32) (fl : Nat → Int32) (wt : Nat → Int32) (c : Nat) (ds : Int32) (kc : Int32) (fc : Int32) (sv : Int32) (t : Nat) (hc9 : c ≤ 9) : Met l yX0_shrink (ws_ yX0_shrink cX0_shrink 5 (some .int)) ({ frames := 1, cells := 0, slots := 0, locals := 23 } : Room) (gPc D (xw q d w pr dr kl fl wt (nI c) ds kc fc sv) (xt d) [.ref (q 0), .int (nI t)]) (QcRead (nI (shrN (okB w c) t c))) 0 0 (fun _ => False) := by
  refine g_met (by decide) (Nat.le_of_ble_eq_true rfl) ?_
  intro p e s m below meth cd hx hb hr hml hown hts hlocks hname hP hK ls hl
  have hown : s.vm.findClass RX0 = some m.cls := hown
  have hl : lv_has ls 5 [(0, .ref (q 0)), (1, .int (nI t))] := hl
  refine lv_iload_n hx hb dX0_shrink_0 rfl (lv_at hl 1 rfl) ?_
  refine lv_istore_n (lv' := [(2, .int (nI t)), (0, .ref (q 0)), (1, .int (nI t))]) hx hb dX0_shrink_1 rfl hl (by decide) rfl (fun ls hl => ?_)
  refine lv_iconst (v := 0) hx hb dX0_shrink_2 (by decide) ?_
  refine lv_istore_n (lv' := [(3, .int 0), (2, .int (nI t)), (0, .ref (q 0)), (1, .int (nI t))]) hx hb dX0_shrink_3 rfl hl (by decide) rfl (fun ls hl => ?_)
  refine g_loop (pc := 4) (P := fun n ls => ∃ (k : Nat) (x : Int32), (k + n = c) ∧ (x = nI (shrN (okB w c) t k)) ∧ lv_has ls 5 [(0, .ref (q 0)), (1, .int (nI t)), (2, .int x), (3, .int (nI k))]) ?_ (c) _ ⟨0, nI t, Nat.zero_add _, rfl, lv_sub hl [2, 3, 1, 0] rfl⟩
  intro n ls hh ih
  obtain ⟨k, x, hk, ex, hl⟩ := hh
  refine lv_iload_n hx hb dX0_shrink_4 rfl (lv_at hl 3 rfl) ?_
  refine lv_aload_n hx hb dX0_shrink_5 rfl (lv_at hl 0 rfl) ?_
  refine va_get (D := D) (ci := 0) (v := .int (nI c)) (C := RX0) (T := TX0) (N := 11) hx hb hts in_X0 hown hK hP 0 rfl rfl 6 (by decide) (hts _ q42) (fun _ h9 => h9) rfl dX0_shrink_6 ?_
  refine lv_icmp_ge (tgt := 39) hx hb dX0_shrink_9 (by decide) (fun c_9 => ?_) (fun c_9 => ?_)
  · have hkc : k = c := c_eq (by omega) (by omega) c_9
    subst hkc
    refine lv_iload_n hx hb dX0_shrink_39 rfl (lv_at hl 2 rfl) ?_
    exact g_ret hx hb hr hlocks (ex) dX0_shrink_40
  · have hlt : k < c := c_lt (by omega) (by omega) c_9
    refine lv_iload_n hx hb dX0_shrink_12 rfl (lv_at hl 2 rfl) ?_
    refine g_tw (y := nI (shrN (okB w c) t k)) (ex) ?_
    refine lv_iconst (v := 1) hx hb dX0_shrink_13 (by decide) ?_
    refine lv_iload_n hx hb dX0_shrink_14 rfl (lv_at hl 3 rfl) ?_
    refine lv_ishl hx hb dX0_shrink_15 ?_
    refine g_tw (y := nI (2 ^ k)) (shl1 k (by omega)) ?_
    refine lv_iconst (v := (-1)) hx hb dX0_shrink_16 (by decide) ?_
    refine lv_ixor hx hb dX0_shrink_17 ?_
    refine lv_iand hx hb dX0_shrink_18 ?_
    refine g_tw (y := nI (sdf (shrN (okB w c) t k) (2 ^ k))) (sd_I _ _) ?_
    refine lv_istore (lv' := [(4, .int (nI (sdf (shrN (okB w c) t k) (2 ^ k)))), (0, .ref (q 0)), (1, .int (nI t)), (2, .int x), (3, .int (nI k))]) hx hb dX0_shrink_19 hl (by decide) rfl (fun ls hl => ?_)
    refine lv_aload_n hx hb dX0_shrink_21 rfl (lv_at hl 1 rfl) ?_
    refine lv_iload hx hb dX0_shrink_22 (lv_at hl 0 rfl) ?_
    refine g_callR (W.runV (As := [.int (nI (sdf (shrN (okB w c) t k) (2 ^ k)))]) (rest := []) ⟨hx, hb, hml, hown, hts⟩ (mX0_common l D q d w pr dr kl fl wt c ds kc fc sv (nI (sdf (shrN (okB w c) t k) (2 ^ k))) hc9) (cwV 1 hts (lw_V q110 q112 qs2 q26 q113) rfl rfl rfl (by decide +kernel) ⟨Nat.le_of_ble_eq_true rfl, Nat.le_of_ble_eq_true rfl⟩) (x_preV _ hK hP) rfl rfl hl.1 rfl (lv_room (Nat.le_of_ble_eq_true rfl)) dX0_shrink_24 ⟨Nat.le_of_ble_eq_true rfl, Nat.le_of_ble_eq_true rfl⟩) ?_
    refine lv_if_ne (tgt := 33) hx hb dX0_shrink_27 (by decide) (fun c_27 => ?_) (fun c_27 => ?_)
    · refine lv_iinc (v := nI (k + 1)) (lv' := [(3, .int (nI (k + 1))), (4, .int (nI (sdf (shrN (okB w c) t k) (2 ^ k)))), (0, .ref (q 0)), (1, .int (nI t)), (2, .int x)]) hx hb dX0_shrink_33 hl (k := 4) rfl (inc1 _) (by decide) rfl (fun ls hl => ?_)
      refine lv_goto (tgt := 4) hx hb dX0_shrink_36 (by decide) ?_
      exact ih (n - 1) _ (by omega) ⟨(k + 1), x, by omega, by first | exact ex.trans (congrArg nI (shrN_t (okB_t c_27)).symm) | exact congrArg nI (shrN_f (okB_f c_27)).symm, lv_sub hl [2, 3, 4, 0] rfl⟩
    · refine lv_iload hx hb dX0_shrink_30 (lv_at hl 0 rfl) ?_
      refine lv_istore_n (lv' := [(2, .int (nI (sdf (shrN (okB w c) t k) (2 ^ k)))), (4, .int (nI (sdf (shrN (okB w c) t k) (2 ^ k)))), (0, .ref (q 0)), (1, .int (nI t)), (3, .int (nI k))]) hx hb dX0_shrink_32 rfl hl (by decide) rfl (fun ls hl => ?_)
      refine lv_iinc (v := nI (k + 1)) (lv' := [(3, .int (nI (k + 1))), (2, .int (nI (sdf (shrN (okB w c) t k) (2 ^ k)))), (4, .int (nI (sdf (shrN (okB w c) t k) (2 ^ k)))), (0, .ref (q 0)), (1, .int (nI t))]) hx hb dX0_shrink_33 hl (k := 4) rfl (inc1 _) (by decide) rfl (fun ls hl => ?_)
      refine lv_goto (tgt := 4) hx hb dX0_shrink_36 (by decide) ?_
      exact ih (n - 1) _ (by omega) ⟨(k + 1), nI (sdf (shrN (okB w c) t k) (2 ^ k)), by omega, by first | exact ex.trans (congrArg nI (shrN_t (okB_t c_27)).symm) | exact congrArg nI (shrN_f (okB_f c_27)).symm, lv_sub hl [3, 4, 1, 0] rfl⟩

set_option maxHeartbeats 4000000 in
theorem mX0_conditions (l : Launch) (D : va_G) (q : Nat → Nat) (d : Nat → ClassId) (w : Nat → Int32) (pr : Nat → Int32) (dr : Nat → Int32) (kl : Nat → Int32) (fl : Nat → Int32) (wt : Nat → Int32) (c : Nat) (ds : Int32) (kc : Int32) (fc : Int32) (sv : Int32) : Met l yX0_conditions (ws_ yX0_conditions cX0_conditions 1 (some .int)) ({ frames := 0, cells := 0, slots := 0, locals := 0 } : Room) (gPc D (xw q d w pr dr kl fl wt (nI c) ds kc fc sv) (xt d) [.ref (q 0)]) (QcRead (nI c)) 0 0 (fun _ => False) := by
  refine g_met (by decide) (Nat.le_of_ble_eq_true rfl) ?_
  intro p e s m below meth cd hx hb hr hml hown hts hlocks hname hP hK ls hl
  have hown : s.vm.findClass RX0 = some m.cls := hown
  have hl : lv_has ls 1 [(0, .ref (q 0))] := hl
  refine lv_aload_n hx hb dX0_conditions_0 rfl (lv_at hl 0 rfl) ?_
  refine va_get (D := D) (ci := 0) (v := .int (nI c)) (C := RX0) (T := TX0) (N := 11) hx hb hts in_X0 hown hK hP 0 rfl rfl 6 (by decide) (hts _ q42) (fun _ h9 => h9) rfl dX0_conditions_1 ?_
  exact g_ret hx hb hr hlocks (rfl) dX0_conditions_4

set_option maxHeartbeats 4000000 in
theorem mX1_conditions (l : Launch) (D : va_G) (q : Nat → Nat) (d : Nat → ClassId) (lt : Nat → Int32) (pm : Nat → Int32) (ab : Nat → Int32) (dm : Int32) (c : Nat) : Met l yX1_conditions (ws_ yX1_conditions cX1_conditions 1 (some .int)) ({ frames := 0, cells := 0, slots := 0, locals := 0 } : Room) (gPc D (mw q d lt pm ab dm (nI c)) (mt d) [.ref (q 0)]) (QcRead (nI c)) 0 0 (fun _ => False) := by
  refine g_met (by decide) (Nat.le_of_ble_eq_true rfl) ?_
  intro p e s m below meth cd hx hb hr hml hown hts hlocks hname hP hK ls hl
  have hown : s.vm.findClass RX1 = some m.cls := hown
  have hl : lv_has ls 1 [(0, .ref (q 0))] := hl
  refine lv_aload_n hx hb dX1_conditions_0 rfl (lv_at hl 0 rfl) ?_
  refine va_get (D := D) (ci := 1) (v := .int (nI c)) (C := RX1) (T := TX1) (N := 5) hx hb hts in_X1 hown hK hP 0 rfl rfl 1 (by decide) (hts _ q213) (fun _ h9 => h9) rfl dX1_conditions_1 ?_
  exact g_ret hx hb hr hlocks (rfl) dX1_conditions_4

set_option maxHeartbeats 4000000 in
theorem mX0_possible (l : Launch) (D : va_G) (q : Nat → Nat) (d : Nat → ClassId) (w : Nat → Int32) (pr : Nat → Int32) (dr : Nat → Int32) (kl : Nat → Int32) (fl : Nat → Int32) (wt : Nat → Int32) (c : Nat) (ds : Int32) (kc : Int32) (fc : Int32) (sv : Int32) (p0 : Int32) (hc9 : c ≤ 9) : Met l yX0_possible (ws_ yX0_possible cX0_possible 2 (some .int)) ({ frames := 1, cells := 0, slots := 0, locals := 23 } : Room) (gPc D (xw q d w pr dr kl fl wt (nI c) ds kc fc sv) (xt d) [.ref (q 0), .int p0]) (QcRead (if isT p0 c = 0 then -1 else if comF w p0 c = 0 then 0 else 1)) 0 0 (fun _ => False) := by
  refine g_met (by decide) (Nat.le_of_ble_eq_true rfl) ?_
  intro p e s m below meth cd hx hb hr hml hown hts hlocks hname hP hK ls hl
  have hown : s.vm.findClass RX0 = some m.cls := hown
  have hl : lv_has ls 2 [(0, .ref (q 0)), (1, .int p0)] := hl
  refine lv_aload_n hx hb dX0_possible_0 rfl (lv_at hl 0 rfl) ?_
  refine lv_iload_n hx hb dX0_possible_1 rfl (lv_at hl 1 rfl) ?_
  refine g_callR (W.runV (As := [.int p0]) (rest := []) ⟨hx, hb, hml, hown, hts⟩ (mX0_isSet l D q d w pr dr kl fl wt c ds kc fc sv p0) (cwV 1 hts (lw_V q106 q108 qs1 q26 q109) rfl rfl rfl (by decide +kernel) ⟨Nat.le_of_ble_eq_true rfl, Nat.le_of_ble_eq_true rfl⟩) (x_preV _ hK hP) rfl rfl hl.1 rfl (lv_room (Nat.le_of_ble_eq_true rfl)) dX0_possible_2 ⟨Nat.le_of_ble_eq_true rfl, Nat.le_of_ble_eq_true rfl⟩) ?_
  refine lv_if_ne (tgt := 10) hx hb dX0_possible_5 (by decide) (fun c_5 => ?_) (fun c_5 => ?_)
  · refine lv_aload_n hx hb dX0_possible_10 rfl (lv_at hl 0 rfl) ?_
    refine lv_iload_n hx hb dX0_possible_11 rfl (lv_at hl 1 rfl) ?_
    refine g_callR (W.runV (As := [.int p0]) (rest := []) ⟨hx, hb, hml, hown, hts⟩ (mX0_common l D q d w pr dr kl fl wt c ds kc fc sv p0 hc9) (cwV 1 hts (lw_V q110 q112 qs2 q26 q113) rfl rfl rfl (by decide +kernel) ⟨Nat.le_of_ble_eq_true rfl, Nat.le_of_ble_eq_true rfl⟩) (x_preV _ hK hP) rfl rfl hl.1 rfl (lv_room (Nat.le_of_ble_eq_true rfl)) dX0_possible_12 ⟨Nat.le_of_ble_eq_true rfl, Nat.le_of_ble_eq_true rfl⟩) ?_
    refine lv_if_eq (tgt := 22) hx hb dX0_possible_15 (by decide) (fun c_15 => ?_) (fun c_15 => ?_)
    · refine lv_iconst (v := 0) hx hb dX0_possible_22 (by decide) ?_
      exact g_ret hx hb hr hlocks (by rw [if_neg c_5, if_pos c_15]) dX0_possible_23
    · refine lv_iconst (v := 1) hx hb dX0_possible_18 (by decide) ?_
      refine lv_goto (tgt := 23) hx hb dX0_possible_19 (by decide) ?_
      exact g_ret hx hb hr hlocks (by rw [if_neg c_5, if_neg c_15]) dX0_possible_23
  · refine lv_iconst (v := (-1)) hx hb dX0_possible_8 (by decide) ?_
    exact g_ret hx hb hr hlocks ((if_pos c_5).symm) dX0_possible_9

set_option maxHeartbeats 4000000 in
theorem mX0_model (l : Launch) (D : va_G) (q : Nat → Nat) (d : Nat → ClassId) (w : Nat → Int32) (pr : Nat → Int32) (dr : Nat → Int32) (kl : Nat → Int32) (fl : Nat → Int32) (wt : Nat → Int32) (c : Nat) (ds : Int32) (kc : Int32) (fc : Int32) (sv : Int32) (p0 : Int32) (hc9 : c ≤ 9) : Met l yX0_model (ws_ yX0_model cX0_model 4 (some .int)) ({ frames := 1, cells := 0, slots := 0, locals := 23 } : Room) (gPc D (xw q d w pr dr kl fl wt (nI c) ds kc fc sv) (xt d) [.ref (q 0), .int p0]) (QcRead (if isT p0 c = 0 then -1 else fnd (fun v => bt (comF w p0 c) v) 32 0)) 0 0 (fun _ => False) := by
  refine g_met (by decide) (Nat.le_of_ble_eq_true rfl) ?_
  intro p e s m below meth cd hx hb hr hml hown hts hlocks hname hP hK ls hl
  have hown : s.vm.findClass RX0 = some m.cls := hown
  have hl : lv_has ls 4 [(0, .ref (q 0)), (1, .int p0)] := hl
  refine lv_aload_n hx hb dX0_model_0 rfl (lv_at hl 0 rfl) ?_
  refine lv_iload_n hx hb dX0_model_1 rfl (lv_at hl 1 rfl) ?_
  refine g_callR (W.runV (As := [.int p0]) (rest := []) ⟨hx, hb, hml, hown, hts⟩ (mX0_isSet l D q d w pr dr kl fl wt c ds kc fc sv p0) (cwV 1 hts (lw_V q106 q108 qs1 q26 q109) rfl rfl rfl (by decide +kernel) ⟨Nat.le_of_ble_eq_true rfl, Nat.le_of_ble_eq_true rfl⟩) (x_preV _ hK hP) rfl rfl hl.1 rfl (lv_room (Nat.le_of_ble_eq_true rfl)) dX0_model_2 ⟨Nat.le_of_ble_eq_true rfl, Nat.le_of_ble_eq_true rfl⟩) ?_
  refine lv_if_ne (tgt := 10) hx hb dX0_model_5 (by decide) (fun c_5 => ?_) (fun c_5 => ?_)
  · refine lv_aload_n hx hb dX0_model_10 rfl (lv_at hl 0 rfl) ?_
    refine lv_iload_n hx hb dX0_model_11 rfl (lv_at hl 1 rfl) ?_
    refine g_callR (W.runV (As := [.int p0]) (rest := []) ⟨hx, hb, hml, hown, hts⟩ (mX0_common l D q d w pr dr kl fl wt c ds kc fc sv p0 hc9) (cwV 1 hts (lw_V q110 q112 qs2 q26 q113) rfl rfl rfl (by decide +kernel) ⟨Nat.le_of_ble_eq_true rfl, Nat.le_of_ble_eq_true rfl⟩) (x_preV _ hK hP) rfl rfl hl.1 rfl (lv_room (Nat.le_of_ble_eq_true rfl)) dX0_model_12 ⟨Nat.le_of_ble_eq_true rfl, Nat.le_of_ble_eq_true rfl⟩) ?_
    refine lv_istore_n (lv' := [(2, .int (comF w p0 c)), (0, .ref (q 0)), (1, .int p0)]) hx hb dX0_model_15 rfl hl (by decide) rfl (fun ls hl => ?_)
    refine lv_iconst (v := 0) hx hb dX0_model_16 (by decide) ?_
    refine lv_istore_n (lv' := [(3, .int 0), (2, .int (comF w p0 c)), (0, .ref (q 0)), (1, .int p0)]) hx hb dX0_model_17 rfl hl (by decide) rfl (fun ls hl => ?_)
    refine g_loop (pc := 18) (P := fun n ls => ∃ (k : Nat), (k + n = 32) ∧ (fnd (fun v => bt (comF w p0 c) v) n k = fnd (fun v => bt (comF w p0 c) v) 32 0) ∧ lv_has ls 4 [(0, .ref (q 0)), (1, .int p0), (2, .int (comF w p0 c)), (3, .int (nI k))]) ?_ (32) _ ⟨0, Nat.zero_add _, rfl, lv_sub hl [2, 3, 1, 0] rfl⟩
    intro n ls hh ih
    obtain ⟨k, hk, ex, hl⟩ := hh
    refine lv_iload_n hx hb dX0_model_18 rfl (lv_at hl 3 rfl) ?_
    refine lv_bipush (v := 32) hx hb dX0_model_19 (by decide) ?_
    refine lv_icmp_ge (tgt := 41) hx hb dX0_model_21 (by decide) (fun c_21 => ?_) (fun c_21 => ?_)
    · have hkc : k = 32 := c_eq (by omega) (by omega) c_21
      subst hkc
      have hn0 : n = 0 := by omega
      subst hn0
      refine lv_bipush (v := (-2)) hx hb dX0_model_41 (by decide) ?_
      exact g_ret hx hb hr hlocks (by rw [if_neg c_5, ← ex]; rfl) dX0_model_43
    · have hlt : k < 32 := c_lt (by omega) (by omega) c_21
      refine lv_iload_n hx hb dX0_model_24 rfl (lv_at hl 2 rfl) ?_
      refine lv_iload_n hx hb dX0_model_25 rfl (lv_at hl 3 rfl) ?_
      refine lv_iushr hx hb dX0_model_26 rfl ?_
      refine lv_iconst (v := 1) hx hb dX0_model_27 (by decide) ?_
      refine lv_iand hx hb dX0_model_28 ?_
      refine g_tw (y := b2i (bt (comF w p0 c) k)) (ub_eq _ (by omega)) ?_
      refine lv_iconst (v := 1) hx hb dX0_model_29 (by decide) ?_
      refine lv_icmp_ne (tgt := 35) hx hb dX0_model_30 (by decide) (fun c_30 => ?_) (fun c_30 => ?_)
      · refine lv_iinc (v := nI (k + 1)) (lv' := [(3, .int (nI (k + 1))), (0, .ref (q 0)), (1, .int p0), (2, .int (comF w p0 c))]) hx hb dX0_model_35 hl (k := 3) rfl (inc1 _) (by decide) rfl (fun ls hl => ?_)
        refine lv_goto (tgt := 18) hx hb dX0_model_38 (by decide) ?_
        exact ih (n - 1) _ (by omega) ⟨(k + 1), by omega, (fnd_f (by omega) (by show bt (comF w p0 c) k = false; rw [← b2i_0]; exact b2i_n1 c_30)).symm.trans ex, lv_sub hl [1, 2, 3, 0] rfl⟩
      · refine lv_iload_n hx hb dX0_model_33 rfl (lv_at hl 3 rfl) ?_
        exact g_ret hx hb hr hlocks (by rw [if_neg c_5, ← ex]; exact (fnd_t (by omega) (b2i_1.mp c_30)).symm) dX0_model_34
  · refine lv_iconst (v := (-1)) hx hb dX0_model_8 (by decide) ?_
    exact g_ret hx hb hr hlocks ((if_pos c_5).symm) dX0_model_9

set_option maxHeartbeats 4000000 in
theorem mX0_width (l : Launch) (D : va_G) (q : Nat → Nat) (d : Nat → ClassId) (w : Nat → Int32) (pr : Nat → Int32) (dr : Nat → Int32) (kl : Nat → Int32) (fl : Nat → Int32) (wt : Nat → Int32) (c : Nat) (ds : Int32) (kc : Int32) (fc : Int32) (sv : Int32) (p0 : Int32) (hc9 : c ≤ 9) : Met l yX0_width (ws_ yX0_width cX0_width 4 (some .int)) ({ frames := 1, cells := 0, slots := 0, locals := 21 } : Room) (gPc D (xw q d w pr dr kl fl wt (nI c) ds kc fc sv) (xt d) [.ref (q 0), .int p0]) (QcRead (if isG p0 (nI c) = 0 then -1 else sumF (fun k => ub (w p0.toNatClampNeg) k) 32)) 0 0 (fun _ => False) := by
  refine g_met (by decide) (Nat.le_of_ble_eq_true rfl) ?_
  intro p e s m below meth cd hx hb hr hml hown hts hlocks hname hP hK ls hl
  have hown : s.vm.findClass RX0 = some m.cls := hown
  have hl : lv_has ls 4 [(0, .ref (q 0)), (1, .int p0)] := hl
  refine lv_aload_n hx hb dX0_width_0 rfl (lv_at hl 0 rfl) ?_
  refine lv_iload_n hx hb dX0_width_1 rfl (lv_at hl 1 rfl) ?_
  refine g_callR (W.runV (As := [.int p0]) (rest := []) ⟨hx, hb, hml, hown, hts⟩ (mX0_isGood l D q d w pr dr kl fl wt c ds kc fc sv p0) (cwV 1 hts (lw_V q90 q92 qs0 q26 q93) rfl rfl rfl (by decide +kernel) ⟨Nat.le_of_ble_eq_true rfl, Nat.le_of_ble_eq_true rfl⟩) (x_preV _ hK hP) rfl rfl hl.1 rfl (lv_room (Nat.le_of_ble_eq_true rfl)) dX0_width_2 ⟨Nat.le_of_ble_eq_true rfl, Nat.le_of_ble_eq_true rfl⟩) ?_
  refine lv_if_ne (tgt := 10) hx hb dX0_width_5 (by decide) (fun c_5 => ?_) (fun c_5 => ?_)
  · obtain ⟨j, hj, hp⟩ := isG_t hc9 c_5
    have hpj : p0.toNatClampNeg = j := by rw [hp]; exact nI_clamp (by omega)
    refine lv_iconst (v := 0) hx hb dX0_width_10 (by decide) ?_
    refine lv_istore_n (lv' := [(2, .int 0), (0, .ref (q 0)), (1, .int p0)]) hx hb dX0_width_11 rfl hl (by decide) rfl (fun ls hl => ?_)
    refine lv_iconst (v := 0) hx hb dX0_width_12 (by decide) ?_
    refine lv_istore_n (lv' := [(3, .int 0), (2, .int 0), (0, .ref (q 0)), (1, .int p0)]) hx hb dX0_width_13 rfl hl (by decide) rfl (fun ls hl => ?_)
    refine g_loop (pc := 14) (P := fun n ls => ∃ (k : Nat) (x : Int32), (k + n = 32) ∧ (x = sumF (fun k => ub (w p0.toNatClampNeg) k) k) ∧ lv_has ls 4 [(0, .ref (q 0)), (1, .int p0), (2, .int x), (3, .int (nI k))]) ?_ (32) _ ⟨0, 0, Nat.zero_add _, rfl, lv_sub hl [2, 3, 1, 0] rfl⟩
    intro n ls hh ih
    obtain ⟨k, x, hk, ex, hl⟩ := hh
    refine lv_iload_n hx hb dX0_width_14 rfl (lv_at hl 3 rfl) ?_
    refine lv_bipush (v := 32) hx hb dX0_width_15 (by decide) ?_
    refine lv_icmp_ge (tgt := 39) hx hb dX0_width_17 (by decide) (fun c_17 => ?_) (fun c_17 => ?_)
    · have hkc : k = 32 := c_eq (by omega) (by omega) c_17
      subst hkc
      refine lv_iload_n hx hb dX0_width_39 rfl (lv_at hl 2 rfl) ?_
      exact g_ret hx hb hr hlocks (by rw [if_neg c_5]; exact ex) dX0_width_40
    · have hlt : k < 32 := c_lt (by omega) (by omega) c_17
      refine lv_iload_n hx hb dX0_width_20 rfl (lv_at hl 2 rfl) ?_
      refine lv_aload_n hx hb dX0_width_21 rfl (lv_at hl 0 rfl) ?_
      refine va_get (D := D) (ci := 0) (v := .ref (q 1)) (C := RX0) (T := TX0) (N := 11) hx hb hts in_X0 hown hK hP 0 rfl rfl 0 (by decide) (hts _ q36) (fun _ h9 => h9) rfl dX0_width_22 ?_
      refine lv_iload_n hx hb dX0_width_25 rfl (lv_at hl 1 rfl) ?_
      refine g_tw (y := nI j) (hp) ?_
      refine g_iald hx hb hK hP 1 0 rfl rfl (k := j) (by omega) (by decide) dX0_width_26 ?_
      refine lv_iload_n hx hb dX0_width_27 rfl (lv_at hl 3 rfl) ?_
      refine lv_iushr hx hb dX0_width_28 rfl ?_
      refine lv_iconst (v := 1) hx hb dX0_width_29 (by decide) ?_
      refine lv_iand hx hb dX0_width_30 ?_
      refine lv_iadd hx hb dX0_width_31 ?_
      refine lv_istore_n (lv' := [(2, .int (x + ((((w j).toUInt32 >>> ((nI k).toUInt32 &&& Int32.toUInt32 31)).toInt32) &&& 1))), (0, .ref (q 0)), (1, .int p0), (3, .int (nI k))]) hx hb dX0_width_32 rfl hl (by decide) rfl (fun ls hl => ?_)
      refine lv_iinc (v := nI (k + 1)) (lv' := [(3, .int (nI (k + 1))), (2, .int (x + ((((w j).toUInt32 >>> ((nI k).toUInt32 &&& Int32.toUInt32 31)).toInt32) &&& 1))), (0, .ref (q 0)), (1, .int p0)]) hx hb dX0_width_33 hl (k := 3) rfl (inc1 _) (by decide) rfl (fun ls hl => ?_)
      refine lv_goto (tgt := 14) hx hb dX0_width_36 (by decide) ?_
      exact ih (n - 1) _ (by omega) ⟨(k + 1), (x + ((((w j).toUInt32 >>> ((nI k).toUInt32 &&& Int32.toUInt32 31)).toInt32) &&& 1)), by omega, by rw [ex]; exact congrArg (sumF (fun k => ub (w p0.toNatClampNeg) k) k + ·) (by rw [hpj]; rfl), lv_sub hl [2, 3, 1, 0] rfl⟩
  · refine lv_iconst (v := (-1)) hx hb dX0_width_8 (by decide) ?_
    exact g_ret hx hb hr hlocks ((if_pos c_5).symm) dX0_width_9

set_option maxHeartbeats 4000000 in
theorem mX1_holds (l : Launch) (D : va_G) (q : Nat → Nat) (d : Nat → ClassId) (lt : Nat → Int32) (pm : Nat → Int32) (ab : Nat → Int32) (dm : Int32) (c : Nat) (j : Nat) (x : Nat) (hj : j < 9) (hx32 : x < 32) : Met l yX1_holds (ws_ yX1_holds cX1_holds 5 (some .boolean)) ({ frames := 0, cells := 0, slots := 0, locals := 0 } : Room) (gPc D (mw q d lt pm ab dm (nI c)) (mt d) [.ref (q 0), .int (nI j), .int (nI x)]) (QcRead (b2i (holB (lt j) x))) 0 0 (fun _ => False) := by
  refine g_met (by decide) (Nat.le_of_ble_eq_true rfl) ?_
  intro p e s m below meth cd hx hb hr hml hown hts hlocks hname hP hK ls hl
  have hown : s.vm.findClass RX1 = some m.cls := hown
  have hl : lv_has ls 5 [(0, .ref (q 0)), (1, .int (nI j)), (2, .int (nI x))] := hl
  refine lv_iconst (v := 0) hx hb dX1_holds_0 (by decide) ?_
  refine lv_istore_n (lv' := [(3, .int 0), (0, .ref (q 0)), (1, .int (nI j)), (2, .int (nI x))]) hx hb dX1_holds_1 rfl hl (by decide) rfl (fun ls hl => ?_)
  refine g_loop (pc := 2) (P := fun n ls => ∃ (k : Nat), (k + n = 5) ∧ (hol (lt j) x n k = holB (lt j) x) ∧ lv_has ls 5 [(0, .ref (q 0)), (1, .int (nI j)), (2, .int (nI x)), (3, .int (nI k))]) ?_ (5) _ ⟨0, Nat.zero_add _, rfl, lv_sub hl [1, 2, 3, 0] rfl⟩
  intro n ls hh ih
  obtain ⟨k, hk, ex, hl⟩ := hh
  refine lv_iload_n hx hb dX1_holds_2 rfl (lv_at hl 3 rfl) ?_
  refine lv_iconst (v := 5) hx hb dX1_holds_3 (by decide) ?_
  refine lv_icmp_ge (tgt := 52) hx hb dX1_holds_4 (by decide) (fun c_4 => ?_) (fun c_4 => ?_)
  · have hkc : k = 5 := c_eq (by omega) (by omega) c_4
    subst hkc
    have hn0 : n = 0 := by omega
    subst hn0
    refine lv_iconst (v := 0) hx hb dX1_holds_52 (by decide) ?_
    exact g_retz hx hb hr hlocks rfl (by rw [← ex]; rfl) dX1_holds_53
  · have hlt : k < 5 := c_lt (by omega) (by omega) c_4
    refine lv_iload_n hx hb dX1_holds_7 rfl (lv_at hl 2 rfl) ?_
    refine lv_iload_n hx hb dX1_holds_8 rfl (lv_at hl 3 rfl) ?_
    refine lv_ishr hx hb dX1_holds_9 ?_
    refine lv_iconst (v := 1) hx hb dX1_holds_10 (by decide) ?_
    refine lv_iand hx hb dX1_holds_11 ?_
    refine lv_iconst (v := 1) hx hb dX1_holds_12 (by decide) ?_
    refine lv_icmp_ne (tgt := 22) hx hb dX1_holds_13 (by decide) (fun c_13 => ?_) (fun c_13 => ?_)
    · have hbit : x.testBit k = false := by rw [← bt_nI x (by omega : k < 32)]; exact b2i_0.mp (b2i_n1 (by rw [← sb_eq _ (by omega : k < 32)]; exact c_13))
      have hix : (if x.testBit k then 2 * k else 2 * k + 1) = 2 * k + 1 := by rw [hbit]; rfl
      refine lv_iconst (v := 2) hx hb dX1_holds_22 (by decide) ?_
      refine lv_iload_n hx hb dX1_holds_23 rfl (lv_at hl 3 rfl) ?_
      refine lv_imul hx hb dX1_holds_24 ?_
      refine g_tw (y := nI (2 * k)) (mul2 k) ?_
      refine lv_iconst (v := 1) hx hb dX1_holds_25 (by decide) ?_
      refine lv_iadd hx hb dX1_holds_26 ?_
      refine g_tw (y := nI (2 * k + 1)) (nI_1 _) ?_
      refine lv_istore (lv' := [(4, .int (nI (2 * k + 1))), (0, .ref (q 0)), (1, .int (nI j)), (2, .int (nI x)), (3, .int (nI k))]) hx hb dX1_holds_27 hl (by decide) rfl (fun ls hl => ?_)
      refine lv_aload_n hx hb dX1_holds_29 rfl (lv_at hl 1 rfl) ?_
      refine va_get (D := D) (ci := 1) (v := .ref (q 1)) (C := RX1) (T := TX1) (N := 5) hx hb hts in_X1 hown hK hP 0 rfl rfl 2 (by decide) (hts _ q214) (fun _ h9 => h9) rfl dX1_holds_30 ?_
      refine lv_iload_n hx hb dX1_holds_33 rfl (lv_at hl 2 rfl) ?_
      refine g_iald hx hb hK hP 1 0 rfl rfl (k := j) (hj) (by decide) dX1_holds_34 ?_
      refine lv_iload hx hb dX1_holds_35 (lv_at hl 0 rfl) ?_
      refine lv_ishr hx hb dX1_holds_37 ?_
      refine lv_iconst (v := 1) hx hb dX1_holds_38 (by decide) ?_
      refine lv_iand hx hb dX1_holds_39 ?_
      refine g_tw (y := b2i (bt (lt j) (2 * k + 1))) (sb_eq _ (by omega)) ?_
      refine lv_iconst (v := 1) hx hb dX1_holds_40 (by decide) ?_
      refine lv_icmp_ne (tgt := 46) hx hb dX1_holds_41 (by decide) (fun c_41 => ?_) (fun c_41 => ?_)
      · refine lv_iinc (v := nI (k + 1)) (lv' := [(3, .int (nI (k + 1))), (4, .int (nI (2 * k + 1))), (0, .ref (q 0)), (1, .int (nI j)), (2, .int (nI x))]) hx hb dX1_holds_46 hl (k := 4) rfl (inc1 _) (by decide) rfl (fun ls hl => ?_)
        refine lv_goto (tgt := 2) hx hb dX1_holds_49 (by decide) ?_
        exact ih (n - 1) _ (by omega) ⟨(k + 1), by omega, by rw [← ex]; exact (hol_f (by omega) (by rw [hix]; exact b2i_0.mp (b2i_n1 c_41))).symm, lv_sub hl [2, 3, 4, 0] rfl⟩
      · refine lv_iconst (v := 1) hx hb dX1_holds_44 (by decide) ?_
        exact g_retz hx hb hr hlocks rfl (by rw [← ex, hol_t (by omega) (by rw [hix]; exact b2i_1.mp c_41)]; rfl) dX1_holds_45
    · have hbit : x.testBit k = true := by rw [← bt_nI x (by omega : k < 32)]; exact (sb_1 _ (by omega : k < 32)).mp c_13
      have hix : (if x.testBit k then 2 * k else 2 * k + 1) = 2 * k := by rw [hbit]; rfl
      refine lv_iconst (v := 2) hx hb dX1_holds_16 (by decide) ?_
      refine lv_iload_n hx hb dX1_holds_17 rfl (lv_at hl 3 rfl) ?_
      refine lv_imul hx hb dX1_holds_18 ?_
      refine lv_goto (tgt := 27) hx hb dX1_holds_19 (by decide) ?_
      refine g_tw (y := nI (2 * k)) (mul2 k) ?_
      refine lv_istore (lv' := [(4, .int (nI (2 * k))), (0, .ref (q 0)), (1, .int (nI j)), (2, .int (nI x)), (3, .int (nI k))]) hx hb dX1_holds_27 hl (by decide) rfl (fun ls hl => ?_)
      refine lv_aload_n hx hb dX1_holds_29 rfl (lv_at hl 1 rfl) ?_
      refine va_get (D := D) (ci := 1) (v := .ref (q 1)) (C := RX1) (T := TX1) (N := 5) hx hb hts in_X1 hown hK hP 0 rfl rfl 2 (by decide) (hts _ q214) (fun _ h9 => h9) rfl dX1_holds_30 ?_
      refine lv_iload_n hx hb dX1_holds_33 rfl (lv_at hl 2 rfl) ?_
      refine g_iald hx hb hK hP 1 0 rfl rfl (k := j) (hj) (by decide) dX1_holds_34 ?_
      refine lv_iload hx hb dX1_holds_35 (lv_at hl 0 rfl) ?_
      refine lv_ishr hx hb dX1_holds_37 ?_
      refine lv_iconst (v := 1) hx hb dX1_holds_38 (by decide) ?_
      refine lv_iand hx hb dX1_holds_39 ?_
      refine g_tw (y := b2i (bt (lt j) (2 * k))) (sb_eq _ (by omega)) ?_
      refine lv_iconst (v := 1) hx hb dX1_holds_40 (by decide) ?_
      refine lv_icmp_ne (tgt := 46) hx hb dX1_holds_41 (by decide) (fun c_41 => ?_) (fun c_41 => ?_)
      · refine lv_iinc (v := nI (k + 1)) (lv' := [(3, .int (nI (k + 1))), (4, .int (nI (2 * k))), (0, .ref (q 0)), (1, .int (nI j)), (2, .int (nI x))]) hx hb dX1_holds_46 hl (k := 4) rfl (inc1 _) (by decide) rfl (fun ls hl => ?_)
        refine lv_goto (tgt := 2) hx hb dX1_holds_49 (by decide) ?_
        exact ih (n - 1) _ (by omega) ⟨(k + 1), by omega, by rw [← ex]; exact (hol_f (by omega) (by rw [hix]; exact b2i_0.mp (b2i_n1 c_41))).symm, lv_sub hl [2, 3, 4, 0] rfl⟩
      · refine lv_iconst (v := 1) hx hb dX1_holds_44 (by decide) ?_
        exact g_retz hx hb hr hlocks rfl (by rw [← ex, hol_t (by omega) (by rw [hix]; exact b2i_1.mp c_41)]; rfl) dX1_holds_45

set_option maxHeartbeats 4000000 in
theorem mX1_all (l : Launch) (D : va_G) (q : Nat → Nat) (d : Nat → ClassId) (lt : Nat → Int32) (pm : Nat → Int32) (ab : Nat → Int32) (dm : Int32) (c : Nat) (p0 : Int32) (x : Nat) (hc9 : c ≤ 9) (hx32 : x < 32) : Met l yX1_all (ws_ yX1_all cX1_all 4 (some .boolean)) ({ frames := 1, cells := 0, slots := 0, locals := 24 } : Room) (gPc D (mw q d lt pm ab dm (nI c)) (mt d) [.ref (q 0), .int p0, .int (nI x)]) (QcRead (b2i (alh lt p0 x c 0))) 0 0 (fun _ => False) := by
  refine g_met (by decide) (Nat.le_of_ble_eq_true rfl) ?_
  intro p e s m below meth cd hx hb hr hml hown hts hlocks hname hP hK ls hl
  have hown : s.vm.findClass RX1 = some m.cls := hown
  have hl : lv_has ls 4 [(0, .ref (q 0)), (1, .int p0), (2, .int (nI x))] := hl
  refine lv_iconst (v := 0) hx hb dX1_all_0 (by decide) ?_
  refine lv_istore_n (lv' := [(3, .int 0), (0, .ref (q 0)), (1, .int p0), (2, .int (nI x))]) hx hb dX1_all_1 rfl hl (by decide) rfl (fun ls hl => ?_)
  refine g_loop (pc := 2) (P := fun n ls => ∃ (k : Nat), (k + n = c) ∧ (alh lt p0 x n k = alh lt p0 x c 0) ∧ lv_has ls 4 [(0, .ref (q 0)), (1, .int p0), (2, .int (nI x)), (3, .int (nI k))]) ?_ (c) _ ⟨0, Nat.zero_add _, rfl, lv_sub hl [1, 2, 3, 0] rfl⟩
  intro n ls hh ih
  obtain ⟨k, hk, ex, hl⟩ := hh
  refine lv_iload_n hx hb dX1_all_2 rfl (lv_at hl 3 rfl) ?_
  refine lv_aload_n hx hb dX1_all_3 rfl (lv_at hl 0 rfl) ?_
  refine va_get (D := D) (ci := 1) (v := .int (nI c)) (C := RX1) (T := TX1) (N := 5) hx hb hts in_X1 hown hK hP 0 rfl rfl 1 (by decide) (hts _ q213) (fun _ h9 => h9) rfl dX1_all_4 ?_
  refine lv_icmp_ge (tgt := 42) hx hb dX1_all_7 (by decide) (fun c_7 => ?_) (fun c_7 => ?_)
  · have hkc : k = c := c_eq (by omega) (by omega) c_7
    subst hkc
    have hn0 : n = 0 := by omega
    subst hn0
    refine lv_iconst (v := 1) hx hb dX1_all_42 (by decide) ?_
    exact g_retz hx hb hr hlocks rfl (by rw [← ex]; rfl) dX1_all_43
  · have hlt : k < c := c_lt (by omega) (by omega) c_7
    refine lv_iload_n hx hb dX1_all_10 rfl (lv_at hl 3 rfl) ?_
    refine lv_bipush (v := 9) hx hb dX1_all_11 (by decide) ?_
    refine lv_icmp_ge (tgt := 42) hx hb dX1_all_13 (by decide) (fun c_13 => ?_) (fun c_13 => ?_)
    · exact absurd c_13 (nI_ge (b := 9) (by omega) (by decide))
    · refine lv_iload_n hx hb dX1_all_16 rfl (lv_at hl 1 rfl) ?_
      refine lv_iload_n hx hb dX1_all_17 rfl (lv_at hl 3 rfl) ?_
      refine lv_ishr hx hb dX1_all_18 ?_
      refine lv_iconst (v := 1) hx hb dX1_all_19 (by decide) ?_
      refine lv_iand hx hb dX1_all_20 ?_
      refine lv_iconst (v := 1) hx hb dX1_all_21 (by decide) ?_
      refine lv_icmp_ne (tgt := 36) hx hb dX1_all_22 (by decide) (fun c_22 => ?_) (fun c_22 => ?_)
      · refine lv_iinc (v := nI (k + 1)) (lv' := [(3, .int (nI (k + 1))), (0, .ref (q 0)), (1, .int p0), (2, .int (nI x))]) hx hb dX1_all_36 hl (k := 3) rfl (inc1 _) (by decide) rfl (fun ls hl => ?_)
        refine lv_goto (tgt := 2) hx hb dX1_all_39 (by decide) ?_
        exact ih (n - 1) _ (by omega) ⟨(k + 1), by omega, (alh_f (by omega) (Or.inl (b2i_0.mp (b2i_n1 (by rw [← sb_eq _ (by omega : k < 32)]; exact c_22))))).symm.trans ex, lv_sub hl [1, 2, 3, 0] rfl⟩
      · refine lv_aload_n hx hb dX1_all_25 rfl (lv_at hl 0 rfl) ?_
        refine lv_iload_n hx hb dX1_all_26 rfl (lv_at hl 3 rfl) ?_
        refine lv_iload_n hx hb dX1_all_27 rfl (lv_at hl 2 rfl) ?_
        refine g_callR (W.runV (As := [.int (nI k), .int (nI x)]) (rest := []) ⟨hx, hb, hml, hown, hts⟩ (mX1_holds l D q d lt pm ab dm c k x (by omega) hx32) (cwV 2 hts (lw_V q277 q279 qs18 q27 q280) rfl rfl rfl (by decide +kernel) ⟨Nat.le_of_ble_eq_true rfl, Nat.le_of_ble_eq_true rfl⟩) (m_preV _ hK hP) rfl rfl hl.1 rfl (lv_room (Nat.le_of_ble_eq_true rfl)) dX1_all_28 ⟨Nat.le_of_ble_eq_true rfl, Nat.le_of_ble_eq_true rfl⟩) ?_
        refine lv_if_ne (tgt := 36) hx hb dX1_all_31 (by decide) (fun c_31 => ?_) (fun c_31 => ?_)
        · refine lv_iinc (v := nI (k + 1)) (lv' := [(3, .int (nI (k + 1))), (0, .ref (q 0)), (1, .int p0), (2, .int (nI x))]) hx hb dX1_all_36 hl (k := 3) rfl (inc1 _) (by decide) rfl (fun ls hl => ?_)
          refine lv_goto (tgt := 2) hx hb dX1_all_39 (by decide) ?_
          exact ih (n - 1) _ (by omega) ⟨(k + 1), by omega, (alh_f (by omega) (Or.inr (by cases hh : holB (lt k) x; exact absurd (by rw [hh]; rfl) c_31; rfl))).symm.trans ex, lv_sub hl [1, 2, 3, 0] rfl⟩
        · refine lv_iconst (v := 0) hx hb dX1_all_34 (by decide) ?_
          exact g_retz hx hb hr hlocks rfl (by rw [← ex, alh_t (by omega) ((sb_1 _ (by omega)).mp c_22) (b2i_0.mp c_31)]; rfl) dX1_all_35

set_option maxHeartbeats 4000000 in
theorem mX1_find (l : Launch) (D : va_G) (q : Nat → Nat) (d : Nat → ClassId) (lt : Nat → Int32) (pm : Nat → Int32) (ab : Nat → Int32) (dm : Int32) (c : Nat) (p0 : Int32) (hc9 : c ≤ 9) : Met l yX1_find (ws_ yX1_find cX1_find 3 (some .int)) ({ frames := 2, cells := 0, slots := 0, locals := 47 } : Room) (gPc D (mw q d lt pm ab dm (nI c)) (mt d) [.ref (q 0), .int p0]) (QcRead (fnd (fun v => alh lt p0 v c 0) 32 0)) 0 0 (fun _ => False) := by
  refine g_met (by decide) (Nat.le_of_ble_eq_true rfl) ?_
  intro p e s m below meth cd hx hb hr hml hown hts hlocks hname hP hK ls hl
  have hown : s.vm.findClass RX1 = some m.cls := hown
  have hl : lv_has ls 3 [(0, .ref (q 0)), (1, .int p0)] := hl
  refine lv_iconst (v := 0) hx hb dX1_find_0 (by decide) ?_
  refine lv_istore_n (lv' := [(2, .int 0), (0, .ref (q 0)), (1, .int p0)]) hx hb dX1_find_1 rfl hl (by decide) rfl (fun ls hl => ?_)
  refine g_loop (pc := 2) (P := fun n ls => ∃ (k : Nat), (k + n = 32) ∧ (fnd (fun v => alh lt p0 v c 0) n k = fnd (fun v => alh lt p0 v c 0) 32 0) ∧ lv_has ls 3 [(0, .ref (q 0)), (1, .int p0), (2, .int (nI k))]) ?_ (32) _ ⟨0, Nat.zero_add _, rfl, lv_sub hl [1, 2, 0] rfl⟩
  intro n ls hh ih
  obtain ⟨k, hk, ex, hl⟩ := hh
  refine lv_iload_n hx hb dX1_find_2 rfl (lv_at hl 2 rfl) ?_
  refine lv_bipush (v := 32) hx hb dX1_find_3 (by decide) ?_
  refine lv_icmp_ge (tgt := 25) hx hb dX1_find_5 (by decide) (fun c_5 => ?_) (fun c_5 => ?_)
  · have hkc : k = 32 := c_eq (by omega) (by omega) c_5
    subst hkc
    have hn0 : n = 0 := by omega
    subst hn0
    refine lv_bipush (v := (-2)) hx hb dX1_find_25 (by decide) ?_
    exact g_ret hx hb hr hlocks (by rw [← ex]; rfl) dX1_find_27
  · have hlt : k < 32 := c_lt (by omega) (by omega) c_5
    refine lv_aload_n hx hb dX1_find_8 rfl (lv_at hl 0 rfl) ?_
    refine lv_iload_n hx hb dX1_find_9 rfl (lv_at hl 1 rfl) ?_
    refine lv_iload_n hx hb dX1_find_10 rfl (lv_at hl 2 rfl) ?_
    refine g_callR (W.runV (As := [.int p0, .int (nI k)]) (rest := []) ⟨hx, hb, hml, hown, hts⟩ (mX1_all l D q d lt pm ab dm c p0 k hc9 (by omega)) (cwV 2 hts (lw_V q273 q275 qs17 q27 q276) rfl rfl rfl (by decide +kernel) ⟨Nat.le_of_ble_eq_true rfl, Nat.le_of_ble_eq_true rfl⟩) (m_preV _ hK hP) rfl rfl hl.1 rfl (lv_room (Nat.le_of_ble_eq_true rfl)) dX1_find_11 ⟨Nat.le_of_ble_eq_true rfl, Nat.le_of_ble_eq_true rfl⟩) ?_
    refine lv_if_eq (tgt := 19) hx hb dX1_find_14 (by decide) (fun c_14 => ?_) (fun c_14 => ?_)
    · refine lv_iinc (v := nI (k + 1)) (lv' := [(2, .int (nI (k + 1))), (0, .ref (q 0)), (1, .int p0)]) hx hb dX1_find_19 hl (k := 2) rfl (inc1 _) (by decide) rfl (fun ls hl => ?_)
      refine lv_goto (tgt := 2) hx hb dX1_find_22 (by decide) ?_
      exact ih (n - 1) _ (by omega) ⟨(k + 1), by omega, (fnd_f (P := fun v => alh lt p0 v c 0) (by omega) (b2i_0.mp c_14)).symm.trans ex, lv_sub hl [1, 2, 0] rfl⟩
    · refine lv_iload_n hx hb dX1_find_17 rfl (lv_at hl 2 rfl) ?_
      exact g_ret hx hb hr hlocks (by rw [← ex]; exact (fnd_t (by omega) (by cases hh : alh lt p0 k c 0; exact absurd (by rw [hh]; rfl) c_14; rfl)).symm) dX1_find_18

set_option maxHeartbeats 4000000 in
theorem mX1_possible (l : Launch) (D : va_G) (q : Nat → Nat) (d : Nat → ClassId) (lt : Nat → Int32) (pm : Nat → Int32) (ab : Nat → Int32) (dm : Int32) (c : Nat) (p0 : Int32) (hc9 : c ≤ 9) : Met l yX1_possible (ws_ yX1_possible cX1_possible 2 (some .int)) ({ frames := 3, cells := 0, slots := 0, locals := 69 } : Room) (gPc D (mw q d lt pm ab dm (nI c)) (mt d) [.ref (q 0), .int p0]) (QcRead (if isU p0 c = 0 then (if fnd (fun v => alh lt p0 v c 0) 32 0 < 0 then 0 else 1) else -1)) 0 0 (fun _ => False) := by
  refine g_met (by decide) (Nat.le_of_ble_eq_true rfl) ?_
  intro p e s m below meth cd hx hb hr hml hown hts hlocks hname hP hK ls hl
  have hown : s.vm.findClass RX1 = some m.cls := hown
  have hl : lv_has ls 2 [(0, .ref (q 0)), (1, .int p0)] := hl
  refine lv_aload_n hx hb dX1_possible_0 rfl (lv_at hl 0 rfl) ?_
  refine lv_iload_n hx hb dX1_possible_1 rfl (lv_at hl 1 rfl) ?_
  refine g_callR (W.runV (As := [.int p0]) (rest := []) ⟨hx, hb, hml, hown, hts⟩ (mX1_badSet l D q d lt pm ab dm c p0) (cwV 1 hts (lw_V q265 q267 qs15 q27 q268) rfl rfl rfl (by decide +kernel) ⟨Nat.le_of_ble_eq_true rfl, Nat.le_of_ble_eq_true rfl⟩) (m_preV _ hK hP) rfl rfl hl.1 rfl (lv_room (Nat.le_of_ble_eq_true rfl)) dX1_possible_2 ⟨Nat.le_of_ble_eq_true rfl, Nat.le_of_ble_eq_true rfl⟩) ?_
  refine lv_if_eq (tgt := 10) hx hb dX1_possible_5 (by decide) (fun c_5 => ?_) (fun c_5 => ?_)
  · refine lv_aload_n hx hb dX1_possible_10 rfl (lv_at hl 0 rfl) ?_
    refine lv_iload_n hx hb dX1_possible_11 rfl (lv_at hl 1 rfl) ?_
    refine g_callR (W.runV (As := [.int p0]) (rest := []) ⟨hx, hb, hml, hown, hts⟩ (mX1_find l D q d lt pm ab dm c p0 hc9) (cwV 1 hts (lw_V q269 q271 qs16 q27 q272) rfl rfl rfl (by decide +kernel) ⟨Nat.le_of_ble_eq_true rfl, Nat.le_of_ble_eq_true rfl⟩) (m_preV _ hK hP) rfl rfl hl.1 rfl (lv_room (Nat.le_of_ble_eq_true rfl)) dX1_possible_12 ⟨Nat.le_of_ble_eq_true rfl, Nat.le_of_ble_eq_true rfl⟩) ?_
    refine lv_if_ge (tgt := 22) hx hb dX1_possible_15 (by decide) (fun c_15 => ?_) (fun c_15 => ?_)
    · refine lv_iconst (v := 1) hx hb dX1_possible_22 (by decide) ?_
      exact g_ret hx hb hr hlocks (by rw [if_pos c_5, if_neg (Int32.not_lt.mpr c_15)]) dX1_possible_23
    · refine lv_iconst (v := 0) hx hb dX1_possible_18 (by decide) ?_
      refine lv_goto (tgt := 23) hx hb dX1_possible_19 (by decide) ?_
      exact g_ret hx hb hr hlocks (by rw [if_pos c_5, if_pos (Int32.not_le.mp c_15)]) dX1_possible_23
  · refine lv_iconst (v := (-1)) hx hb dX1_possible_8 (by decide) ?_
    exact g_ret hx hb hr hlocks ((if_neg c_5).symm) dX1_possible_9

set_option maxHeartbeats 4000000 in
theorem mX1_model (l : Launch) (D : va_G) (q : Nat → Nat) (d : Nat → ClassId) (lt : Nat → Int32) (pm : Nat → Int32) (ab : Nat → Int32) (dm : Int32) (c : Nat) (p0 : Int32) (hc9 : c ≤ 9) : Met l yX1_model (ws_ yX1_model cX1_model 2 (some .int)) ({ frames := 3, cells := 0, slots := 0, locals := 69 } : Room) (gPc D (mw q d lt pm ab dm (nI c)) (mt d) [.ref (q 0), .int p0]) (QcRead (if isU p0 c = 0 then fnd (fun v => alh lt p0 v c 0) 32 0 else -1)) 0 0 (fun _ => False) := by
  refine g_met (by decide) (Nat.le_of_ble_eq_true rfl) ?_
  intro p e s m below meth cd hx hb hr hml hown hts hlocks hname hP hK ls hl
  have hown : s.vm.findClass RX1 = some m.cls := hown
  have hl : lv_has ls 2 [(0, .ref (q 0)), (1, .int p0)] := hl
  refine lv_aload_n hx hb dX1_model_0 rfl (lv_at hl 0 rfl) ?_
  refine lv_iload_n hx hb dX1_model_1 rfl (lv_at hl 1 rfl) ?_
  refine g_callR (W.runV (As := [.int p0]) (rest := []) ⟨hx, hb, hml, hown, hts⟩ (mX1_badSet l D q d lt pm ab dm c p0) (cwV 1 hts (lw_V q265 q267 qs15 q27 q268) rfl rfl rfl (by decide +kernel) ⟨Nat.le_of_ble_eq_true rfl, Nat.le_of_ble_eq_true rfl⟩) (m_preV _ hK hP) rfl rfl hl.1 rfl (lv_room (Nat.le_of_ble_eq_true rfl)) dX1_model_2 ⟨Nat.le_of_ble_eq_true rfl, Nat.le_of_ble_eq_true rfl⟩) ?_
  refine lv_if_eq (tgt := 12) hx hb dX1_model_5 (by decide) (fun c_5 => ?_) (fun c_5 => ?_)
  · refine lv_aload_n hx hb dX1_model_12 rfl (lv_at hl 0 rfl) ?_
    refine lv_iload_n hx hb dX1_model_13 rfl (lv_at hl 1 rfl) ?_
    refine g_callR (W.runV (As := [.int p0]) (rest := []) ⟨hx, hb, hml, hown, hts⟩ (mX1_find l D q d lt pm ab dm c p0 hc9) (cwV 1 hts (lw_V q269 q271 qs16 q27 q272) rfl rfl rfl (by decide +kernel) ⟨Nat.le_of_ble_eq_true rfl, Nat.le_of_ble_eq_true rfl⟩) (m_preV _ hK hP) rfl rfl hl.1 rfl (lv_room (Nat.le_of_ble_eq_true rfl)) dX1_model_14 ⟨Nat.le_of_ble_eq_true rfl, Nat.le_of_ble_eq_true rfl⟩) ?_
    exact g_ret hx hb hr hlocks ((if_pos c_5).symm) dX1_model_17
  · refine lv_iconst (v := (-1)) hx hb dX1_model_8 (by decide) ?_
    refine lv_goto (tgt := 17) hx hb dX1_model_9 (by decide) ?_
    exact g_ret hx hb hr hlocks ((if_neg c_5).symm) dX1_model_17

set_option maxHeartbeats 4000000 in
theorem mX1_isKernel (l : Launch) (D : va_G) (q : Nat → Nat) (d : Nat → ClassId) (lt : Nat → Int32) (pm : Nat → Int32) (ab : Nat → Int32) (dm : Int32) (c : Nat) (t : Nat) (hc9 : c ≤ 9) (ok : Nat → Bool) (ht : t < 2 ^ c) (hab : ∀ t, t < 2 ^ c → ab t = b2i (ok t)) : Met l yX1_isKernel (ws_ yX1_isKernel cX1_isKernel 3 (some .boolean)) ({ frames := 0, cells := 0, slots := 0, locals := 0 } : Room) (gPc D (mw q d lt pm ab dm (nI c)) (mt d) [.ref (q 0), .int (nI t)]) (QcRead (b2i (isK ok c t))) 0 0 (fun _ => False) := by
  refine g_met (by decide) (Nat.le_of_ble_eq_true rfl) ?_
  intro p e s m below meth cd hx hb hr hml hown hts hlocks hname hP hK ls hl
  have hown : s.vm.findClass RX1 = some m.cls := hown
  have hl : lv_has ls 3 [(0, .ref (q 0)), (1, .int (nI t))] := hl
  have h512 := pow9 hc9
  refine lv_aload_n hx hb dX1_isKernel_0 rfl (lv_at hl 0 rfl) ?_
  refine va_get (D := D) (ci := 1) (v := .ref (q 3)) (C := RX1) (T := TX1) (N := 5) hx hb hts in_X1 hown hK hP 0 rfl rfl 4 (by decide) (hts _ q216) (fun _ h9 => h9) rfl dX1_isKernel_1 ?_
  refine lv_iload_n hx hb dX1_isKernel_4 rfl (lv_at hl 1 rfl) ?_
  refine g_zald hx hb hK hP 3 2 rfl rfl (k := t) (by omega) (by decide) dX1_isKernel_5 ?_
  refine g_tw (y := b2i (ok t)) (hab t ht) ?_
  refine lv_if_eq (tgt := 11) hx hb dX1_isKernel_6 (by decide) (fun c_6 => ?_) (fun c_6 => ?_)
  · have ht0 : ok t = false := b2i_0.mp c_6
    refine lv_iconst (v := 0) hx hb dX1_isKernel_11 (by decide) ?_
    refine lv_istore_n (lv' := [(2, .int 0), (0, .ref (q 0)), (1, .int (nI t))]) hx hb dX1_isKernel_12 rfl hl (by decide) rfl (fun ls hl => ?_)
    refine g_loop (pc := 13) (P := fun n ls => ∃ (k : Nat), (k + n = c) ∧ (kerL ok t n k = kerL ok t c 0) ∧ lv_has ls 3 [(0, .ref (q 0)), (1, .int (nI t)), (2, .int (nI k))]) ?_ (c) _ ⟨0, Nat.zero_add _, rfl, lv_sub hl [1, 2, 0] rfl⟩
    intro n ls hh ih
    obtain ⟨k, hk, ex, hl⟩ := hh
    refine lv_iload_n hx hb dX1_isKernel_13 rfl (lv_at hl 2 rfl) ?_
    refine lv_aload_n hx hb dX1_isKernel_14 rfl (lv_at hl 0 rfl) ?_
    refine va_get (D := D) (ci := 1) (v := .int (nI c)) (C := RX1) (T := TX1) (N := 5) hx hb hts in_X1 hown hK hP 0 rfl rfl 1 (by decide) (hts _ q213) (fun _ h9 => h9) rfl dX1_isKernel_15 ?_
    refine lv_icmp_ge (tgt := 53) hx hb dX1_isKernel_18 (by decide) (fun c_18 => ?_) (fun c_18 => ?_)
    · have hkc : k = c := c_eq (by omega) (by omega) c_18
      subst hkc
      have hn0 : n = 0 := by omega
      subst hn0
      refine lv_iconst (v := 1) hx hb dX1_isKernel_53 (by decide) ?_
      exact g_retz hx hb hr hlocks rfl (by unfold isK; rw [ht0, ← ex]; rfl) dX1_isKernel_54
    · have hlt : k < c := c_lt (by omega) (by omega) c_18
      refine lv_iload_n hx hb dX1_isKernel_21 rfl (lv_at hl 1 rfl) ?_
      refine lv_iload_n hx hb dX1_isKernel_22 rfl (lv_at hl 2 rfl) ?_
      refine lv_ishr hx hb dX1_isKernel_23 ?_
      refine lv_iconst (v := 1) hx hb dX1_isKernel_24 (by decide) ?_
      refine lv_iand hx hb dX1_isKernel_25 ?_
      refine lv_iconst (v := 1) hx hb dX1_isKernel_26 (by decide) ?_
      refine lv_icmp_ne (tgt := 47) hx hb dX1_isKernel_27 (by decide) (fun c_27 => ?_) (fun c_27 => ?_)
      · refine lv_iinc (v := nI (k + 1)) (lv' := [(2, .int (nI (k + 1))), (0, .ref (q 0)), (1, .int (nI t))]) hx hb dX1_isKernel_47 hl (k := 2) rfl (inc1 _) (by decide) rfl (fun ls hl => ?_)
        refine lv_goto (tgt := 13) hx hb dX1_isKernel_50 (by decide) ?_
        exact ih (n - 1) _ (by omega) ⟨(k + 1), by omega, (kerL_f (by omega) (Or.inl (by rw [← bt_nI t (by omega : k < 32)]; exact b2i_0.mp (b2i_n1 (by rw [← sb_eq _ (by omega : k < 32)]; exact c_27))))).symm.trans ex, lv_sub hl [1, 2, 0] rfl⟩
      · have hbit : t.testBit k = true := by rw [← bt_nI t (by omega : k < 32)]; exact (sb_1 _ (by omega : k < 32)).mp c_27
        have hsd := sdf_le t (2 ^ k)
        refine lv_aload_n hx hb dX1_isKernel_30 rfl (lv_at hl 0 rfl) ?_
        refine va_get (D := D) (ci := 1) (v := .ref (q 3)) (C := RX1) (T := TX1) (N := 5) hx hb hts in_X1 hown hK hP 0 rfl rfl 4 (by decide) (hts _ q216) (fun _ h9 => h9) rfl dX1_isKernel_31 ?_
        refine lv_iload_n hx hb dX1_isKernel_34 rfl (lv_at hl 1 rfl) ?_
        refine lv_iconst (v := 1) hx hb dX1_isKernel_35 (by decide) ?_
        refine lv_iload_n hx hb dX1_isKernel_36 rfl (lv_at hl 2 rfl) ?_
        refine lv_ishl hx hb dX1_isKernel_37 ?_
        refine g_tw (y := nI (2 ^ k)) (shl1 k (by omega)) ?_
        refine lv_iconst (v := (-1)) hx hb dX1_isKernel_38 (by decide) ?_
        refine lv_ixor hx hb dX1_isKernel_39 ?_
        refine lv_iand hx hb dX1_isKernel_40 ?_
        refine g_tw (y := nI (sdf t (2 ^ k))) (sd_I _ _) ?_
        refine g_zald hx hb hK hP 3 2 rfl rfl (k := (sdf t (2 ^ k))) (by omega) (by decide) dX1_isKernel_41 ?_
        refine g_tw (y := b2i (ok (sdf t (2 ^ k)))) (hab _ (by omega)) ?_
        refine lv_if_ne (tgt := 47) hx hb dX1_isKernel_42 (by decide) (fun c_42 => ?_) (fun c_42 => ?_)
        · refine lv_iinc (v := nI (k + 1)) (lv' := [(2, .int (nI (k + 1))), (0, .ref (q 0)), (1, .int (nI t))]) hx hb dX1_isKernel_47 hl (k := 2) rfl (inc1 _) (by decide) rfl (fun ls hl => ?_)
          refine lv_goto (tgt := 13) hx hb dX1_isKernel_50 (by decide) ?_
          exact ih (n - 1) _ (by omega) ⟨(k + 1), by omega, (kerL_f (by omega) (Or.inr (by cases hh : ok (sdf t (2 ^ k)); exact absurd (by rw [hh]; rfl) c_42; rfl))).symm.trans ex, lv_sub hl [1, 2, 0] rfl⟩
        · refine lv_iconst (v := 0) hx hb dX1_isKernel_45 (by decide) ?_
          exact g_retz hx hb hr hlocks rfl (by unfold isK; rw [ht0, ← ex, kerL_t (by omega) hbit (b2i_0.mp c_42)]; rfl) dX1_isKernel_46
  · have ht1 : ok t = true := by cases hh : ok t; exact absurd (by rw [hh]; rfl) c_6; rfl
    refine lv_iconst (v := 0) hx hb dX1_isKernel_9 (by decide) ?_
    exact g_retz hx hb hr hlocks rfl (by unfold isK; rw [ht1]; rfl) dX1_isKernel_10

set_option maxHeartbeats 4000000 in
theorem mX1_isCorrection (l : Launch) (D : va_G) (q : Nat → Nat) (d : Nat → ClassId) (lt : Nat → Int32) (pm : Nat → Int32) (ab : Nat → Int32) (dm : Int32) (c : Nat) (t : Nat) (hc9 : c ≤ 9) (ok : Nat → Bool) (ht : t < 2 ^ c) (hab : ∀ t, t < 2 ^ c → ab t = b2i (ok t)) : Met l yX1_isCorrection (ws_ yX1_isCorrection cX1_isCorrection 4 (some .boolean)) ({ frames := 0, cells := 0, slots := 0, locals := 0 } : Room) (gPc D (mw q d lt pm ab dm (nI c)) (mt d) [.ref (q 0), .int (nI t)]) (QcRead (b2i (isC ok c t))) 0 0 (fun _ => False) := by
  refine g_met (by decide) (Nat.le_of_ble_eq_true rfl) ?_
  intro p e s m below meth cd hx hb hr hml hown hts hlocks hname hP hK ls hl
  have hown : s.vm.findClass RX1 = some m.cls := hown
  have hl : lv_has ls 4 [(0, .ref (q 0)), (1, .int (nI t))] := hl
  have h512 := pow9 hc9
  have hp0 : 0 < 2 ^ c := Nat.two_pow_pos c
  have hso := sdf_le (2 ^ c - 1) t
  refine lv_iconst (v := 1) hx hb dX1_isCorrection_0 (by decide) ?_
  refine lv_aload_n hx hb dX1_isCorrection_1 rfl (lv_at hl 0 rfl) ?_
  refine va_get (D := D) (ci := 1) (v := .int (nI c)) (C := RX1) (T := TX1) (N := 5) hx hb hts in_X1 hown hK hP 0 rfl rfl 1 (by decide) (hts _ q213) (fun _ h9 => h9) rfl dX1_isCorrection_2 ?_
  refine lv_ishl hx hb dX1_isCorrection_5 ?_
  refine lv_iconst (v := 1) hx hb dX1_isCorrection_6 (by decide) ?_
  refine lv_isub hx hb dX1_isCorrection_7 ?_
  refine g_tw (y := nI (2 ^ c - 1)) (all_I hc9) ?_
  refine lv_iload_n hx hb dX1_isCorrection_8 rfl (lv_at hl 1 rfl) ?_
  refine lv_iconst (v := (-1)) hx hb dX1_isCorrection_9 (by decide) ?_
  refine lv_ixor hx hb dX1_isCorrection_10 ?_
  refine lv_iand hx hb dX1_isCorrection_11 ?_
  refine g_tw (y := nI (sdf (2 ^ c - 1) t)) (sd_I _ _) ?_
  refine lv_istore_n (lv' := [(2, .int (nI (sdf (2 ^ c - 1) t))), (0, .ref (q 0)), (1, .int (nI t))]) hx hb dX1_isCorrection_12 rfl hl (by decide) rfl (fun ls hl => ?_)
  refine lv_aload_n hx hb dX1_isCorrection_13 rfl (lv_at hl 1 rfl) ?_
  refine va_get (D := D) (ci := 1) (v := .ref (q 3)) (C := RX1) (T := TX1) (N := 5) hx hb hts in_X1 hown hK hP 0 rfl rfl 4 (by decide) (hts _ q216) (fun _ h9 => h9) rfl dX1_isCorrection_14 ?_
  refine lv_iload_n hx hb dX1_isCorrection_17 rfl (lv_at hl 0 rfl) ?_
  refine g_zald hx hb hK hP 3 2 rfl rfl (k := (sdf (2 ^ c - 1) t)) (by omega) (by decide) dX1_isCorrection_18 ?_
  refine g_tw (y := b2i (ok (sdf (2 ^ c - 1) t))) (hab _ (by omega)) ?_
  refine lv_if_ne (tgt := 24) hx hb dX1_isCorrection_19 (by decide) (fun c_19 => ?_) (fun c_19 => ?_)
  · have ht1 : ok (sdf (2 ^ c - 1) t) = true := by cases hh : ok (sdf (2 ^ c - 1) t); exact absurd (by rw [hh]; rfl) c_19; rfl
    refine lv_iconst (v := 0) hx hb dX1_isCorrection_24 (by decide) ?_
    refine lv_istore_n (lv' := [(3, .int 0), (2, .int (nI (sdf (2 ^ c - 1) t))), (0, .ref (q 0)), (1, .int (nI t))]) hx hb dX1_isCorrection_25 rfl hl (by decide) rfl (fun ls hl => ?_)
    refine g_loop (pc := 26) (P := fun n ls => ∃ (k : Nat), (k + n = c) ∧ (corL ok c t n k = corL ok c t c 0) ∧ lv_has ls 4 [(0, .ref (q 0)), (1, .int (nI t)), (2, .int (nI (sdf (2 ^ c - 1) t))), (3, .int (nI k))]) ?_ (c) _ ⟨0, Nat.zero_add _, rfl, lv_sub hl [2, 3, 1, 0] rfl⟩
    intro n ls hh ih
    obtain ⟨k, hk, ex, hl⟩ := hh
    refine lv_iload_n hx hb dX1_isCorrection_26 rfl (lv_at hl 3 rfl) ?_
    refine lv_aload_n hx hb dX1_isCorrection_27 rfl (lv_at hl 0 rfl) ?_
    refine va_get (D := D) (ci := 1) (v := .int (nI c)) (C := RX1) (T := TX1) (N := 5) hx hb hts in_X1 hown hK hP 0 rfl rfl 1 (by decide) (hts _ q213) (fun _ h9 => h9) rfl dX1_isCorrection_28 ?_
    refine lv_icmp_ge (tgt := 64) hx hb dX1_isCorrection_31 (by decide) (fun c_31 => ?_) (fun c_31 => ?_)
    · have hkc : k = c := c_eq (by omega) (by omega) c_31
      subst hkc
      have hn0 : n = 0 := by omega
      subst hn0
      refine lv_iconst (v := 1) hx hb dX1_isCorrection_64 (by decide) ?_
      exact g_retz hx hb hr hlocks rfl (by unfold isC; rw [ht1, ← ex]; rfl) dX1_isCorrection_65
    · have hlt : k < c := c_lt (by omega) (by omega) c_31
      refine lv_iload_n hx hb dX1_isCorrection_34 rfl (lv_at hl 1 rfl) ?_
      refine lv_iload_n hx hb dX1_isCorrection_35 rfl (lv_at hl 3 rfl) ?_
      refine lv_ishr hx hb dX1_isCorrection_36 ?_
      refine lv_iconst (v := 1) hx hb dX1_isCorrection_37 (by decide) ?_
      refine lv_iand hx hb dX1_isCorrection_38 ?_
      refine lv_iconst (v := 1) hx hb dX1_isCorrection_39 (by decide) ?_
      refine lv_icmp_ne (tgt := 58) hx hb dX1_isCorrection_40 (by decide) (fun c_40 => ?_) (fun c_40 => ?_)
      · refine lv_iinc (v := nI (k + 1)) (lv' := [(3, .int (nI (k + 1))), (0, .ref (q 0)), (1, .int (nI t)), (2, .int (nI (sdf (2 ^ c - 1) t)))]) hx hb dX1_isCorrection_58 hl (k := 3) rfl (inc1 _) (by decide) rfl (fun ls hl => ?_)
        refine lv_goto (tgt := 26) hx hb dX1_isCorrection_61 (by decide) ?_
        exact ih (n - 1) _ (by omega) ⟨(k + 1), by omega, (corL_f (by omega) (Or.inl (by rw [← bt_nI t (by omega : k < 32)]; exact b2i_0.mp (b2i_n1 (by rw [← sb_eq _ (by omega : k < 32)]; exact c_40))))).symm.trans ex, lv_sub hl [1, 2, 3, 0] rfl⟩
      · have hbit : t.testBit k = true := by rw [← bt_nI t (by omega : k < 32)]; exact (sb_1 _ (by omega : k < 32)).mp c_40
        have hor : sdf (2 ^ c - 1) t ||| 2 ^ k < 2 ^ c := or_bit_lt (by omega) hlt
        refine lv_aload_n hx hb dX1_isCorrection_43 rfl (lv_at hl 0 rfl) ?_
        refine va_get (D := D) (ci := 1) (v := .ref (q 3)) (C := RX1) (T := TX1) (N := 5) hx hb hts in_X1 hown hK hP 0 rfl rfl 4 (by decide) (hts _ q216) (fun _ h9 => h9) rfl dX1_isCorrection_44 ?_
        refine lv_iload_n hx hb dX1_isCorrection_47 rfl (lv_at hl 2 rfl) ?_
        refine lv_iconst (v := 1) hx hb dX1_isCorrection_48 (by decide) ?_
        refine lv_iload_n hx hb dX1_isCorrection_49 rfl (lv_at hl 3 rfl) ?_
        refine lv_ishl hx hb dX1_isCorrection_50 ?_
        refine g_tw (y := nI (2 ^ k)) (shl1 k (by omega)) ?_
        refine lv_ior hx hb dX1_isCorrection_51 ?_
        refine g_tw (y := nI (sdf (2 ^ c - 1) t ||| 2 ^ k)) (nx_or _ _) ?_
        refine g_zald hx hb hK hP 3 2 rfl rfl (k := (sdf (2 ^ c - 1) t ||| 2 ^ k)) (by omega) (by decide) dX1_isCorrection_52 ?_
        refine g_tw (y := b2i (ok (sdf (2 ^ c - 1) t ||| 2 ^ k))) (hab _ hor) ?_
        refine lv_if_eq (tgt := 58) hx hb dX1_isCorrection_53 (by decide) (fun c_53 => ?_) (fun c_53 => ?_)
        · refine lv_iinc (v := nI (k + 1)) (lv' := [(3, .int (nI (k + 1))), (0, .ref (q 0)), (1, .int (nI t)), (2, .int (nI (sdf (2 ^ c - 1) t)))]) hx hb dX1_isCorrection_58 hl (k := 3) rfl (inc1 _) (by decide) rfl (fun ls hl => ?_)
          refine lv_goto (tgt := 26) hx hb dX1_isCorrection_61 (by decide) ?_
          exact ih (n - 1) _ (by omega) ⟨(k + 1), by omega, (corL_f (by omega) (Or.inr (b2i_0.mp c_53))).symm.trans ex, lv_sub hl [1, 2, 3, 0] rfl⟩
        · refine lv_iconst (v := 0) hx hb dX1_isCorrection_56 (by decide) ?_
          exact g_retz hx hb hr hlocks rfl (by unfold isC; rw [ht1, ← ex, corL_t (by omega) hbit (by cases hh : ok (sdf (2 ^ c - 1) t ||| 2 ^ k); exact absurd (by rw [hh]; rfl) c_53; rfl)]; rfl) dX1_isCorrection_57
  · have ht0 : ok (sdf (2 ^ c - 1) t) = false := b2i_0.mp c_19
    refine lv_iconst (v := 0) hx hb dX1_isCorrection_22 (by decide) ?_
    exact g_retz hx hb hr hlocks rfl (by unfold isC; rw [ht0]; rfl) dX1_isCorrection_23

set_option maxHeartbeats 4000000 in
theorem mX1_width (l : Launch) (D : va_G) (q : Nat → Nat) (d : Nat → ClassId) (lt : Nat → Int32) (pm : Nat → Int32) (ab : Nat → Int32) (dm : Int32) (c : Nat) (p0 : Int32) (hc9 : c ≤ 9) : Met l yX1_width (ws_ yX1_width cX1_width 4 (some .int)) ({ frames := 1, cells := 0, slots := 0, locals := 24 } : Room) (gPc D (mw q d lt pm ab dm (nI c)) (mt d) [.ref (q 0), .int p0]) (QcRead (if isB p0 (nI c) = 0 then sumF (fun v => b2i (holB (lt p0.toNatClampNeg) v)) 32 else -1)) 0 0 (fun _ => False) := by
  refine g_met (by decide) (Nat.le_of_ble_eq_true rfl) ?_
  intro p e s m below meth cd hx hb hr hml hown hts hlocks hname hP hK ls hl
  have hown : s.vm.findClass RX1 = some m.cls := hown
  have hl : lv_has ls 4 [(0, .ref (q 0)), (1, .int p0)] := hl
  refine lv_aload_n hx hb dX1_width_0 rfl (lv_at hl 0 rfl) ?_
  refine lv_iload_n hx hb dX1_width_1 rfl (lv_at hl 1 rfl) ?_
  refine g_callR (W.runV (As := [.int p0]) (rest := []) ⟨hx, hb, hml, hown, hts⟩ (mX1_bad l D q d lt pm ab dm c p0 hc9) (cwV 1 hts (lw_V q249 q251 qs14 q27 q252) rfl rfl rfl (by decide +kernel) ⟨Nat.le_of_ble_eq_true rfl, Nat.le_of_ble_eq_true rfl⟩) (m_preV _ hK hP) rfl rfl hl.1 rfl (lv_room (Nat.le_of_ble_eq_true rfl)) dX1_width_2 ⟨Nat.le_of_ble_eq_true rfl, Nat.le_of_ble_eq_true rfl⟩) ?_
  refine lv_if_eq (tgt := 10) hx hb dX1_width_5 (by decide) (fun c_5 => ?_) (fun c_5 => ?_)
  · obtain ⟨j, hj, hp⟩ := isG_t hc9 ((isB_isG _ _).mp c_5)
    have hpj : p0.toNatClampNeg = j := by rw [hp]; exact nI_clamp (by omega)
    refine lv_iconst (v := 0) hx hb dX1_width_10 (by decide) ?_
    refine lv_istore_n (lv' := [(2, .int 0), (0, .ref (q 0)), (1, .int p0)]) hx hb dX1_width_11 rfl hl (by decide) rfl (fun ls hl => ?_)
    refine lv_iconst (v := 0) hx hb dX1_width_12 (by decide) ?_
    refine lv_istore_n (lv' := [(3, .int 0), (2, .int 0), (0, .ref (q 0)), (1, .int p0)]) hx hb dX1_width_13 rfl hl (by decide) rfl (fun ls hl => ?_)
    refine g_loop (pc := 14) (P := fun n ls => ∃ (k : Nat) (x : Int32), (k + n = 32) ∧ (x = sumF (fun v => b2i (holB (lt p0.toNatClampNeg) v)) k) ∧ lv_has ls 4 [(0, .ref (q 0)), (1, .int p0), (2, .int x), (3, .int (nI k))]) ?_ (32) _ ⟨0, 0, Nat.zero_add _, rfl, lv_sub hl [2, 3, 1, 0] rfl⟩
    intro n ls hh ih
    obtain ⟨k, x, hk, ex, hl⟩ := hh
    refine lv_iload_n hx hb dX1_width_14 rfl (lv_at hl 3 rfl) ?_
    refine lv_bipush (v := 32) hx hb dX1_width_15 (by decide) ?_
    refine lv_icmp_ge (tgt := 38) hx hb dX1_width_17 (by decide) (fun c_17 => ?_) (fun c_17 => ?_)
    · have hkc : k = 32 := c_eq (by omega) (by omega) c_17
      subst hkc
      refine lv_iload_n hx hb dX1_width_38 rfl (lv_at hl 2 rfl) ?_
      exact g_ret hx hb hr hlocks (by rw [if_pos c_5]; exact ex) dX1_width_39
    · have hlt : k < 32 := c_lt (by omega) (by omega) c_17
      refine lv_aload_n hx hb dX1_width_20 rfl (lv_at hl 0 rfl) ?_
      refine lv_iload_n hx hb dX1_width_21 rfl (lv_at hl 1 rfl) ?_
      refine g_tw (y := nI j) (hp) ?_
      refine lv_iload_n hx hb dX1_width_22 rfl (lv_at hl 3 rfl) ?_
      refine g_callR (W.runV (As := [.int (nI j), .int (nI k)]) (rest := []) ⟨hx, hb, hml, hown, hts⟩ (mX1_holds l D q d lt pm ab dm c j k (by omega) (by omega)) (cwV 2 hts (lw_V q277 q279 qs18 q27 q280) rfl rfl rfl (by decide +kernel) ⟨Nat.le_of_ble_eq_true rfl, Nat.le_of_ble_eq_true rfl⟩) (m_preV _ hK hP) rfl rfl hl.1 rfl (lv_room (Nat.le_of_ble_eq_true rfl)) dX1_width_23 ⟨Nat.le_of_ble_eq_true rfl, Nat.le_of_ble_eq_true rfl⟩) ?_
      refine lv_if_eq (tgt := 32) hx hb dX1_width_26 (by decide) (fun c_26 => ?_) (fun c_26 => ?_)
      · refine lv_iinc (v := nI (k + 1)) (lv' := [(3, .int (nI (k + 1))), (0, .ref (q 0)), (1, .int p0), (2, .int x)]) hx hb dX1_width_32 hl (k := 3) rfl (inc1 _) (by decide) rfl (fun ls hl => ?_)
        refine lv_goto (tgt := 14) hx hb dX1_width_35 (by decide) ?_
        exact ih (n - 1) _ (by omega) ⟨(k + 1), x, by omega, by rw [ex]; show _ = sumF _ k + b2i (holB (lt p0.toNatClampNeg) k); rw [hpj, c_26, Int32.add_zero], lv_sub hl [1, 2, 3, 0] rfl⟩
      · refine lv_iinc (v := (x + 1)) (lv' := [(2, .int (x + 1)), (0, .ref (q 0)), (1, .int p0), (3, .int (nI k))]) hx hb dX1_width_29 hl (k := 2) rfl (rfl) (by decide) rfl (fun ls hl => ?_)
        refine lv_iinc (v := nI (k + 1)) (lv' := [(3, .int (nI (k + 1))), (2, .int (x + 1)), (0, .ref (q 0)), (1, .int p0)]) hx hb dX1_width_32 hl (k := 3) rfl (inc1 _) (by decide) rfl (fun ls hl => ?_)
        refine lv_goto (tgt := 14) hx hb dX1_width_35 (by decide) ?_
        exact ih (n - 1) _ (by omega) ⟨(k + 1), (x + 1), by omega, by rw [ex]; show _ = sumF _ k + b2i (holB (lt p0.toNatClampNeg) k); rw [hpj]; cases hh : holB (lt j) k; exact absurd (by rw [hh]; rfl) c_26; rfl, lv_sub hl [2, 3, 1, 0] rfl⟩
  · refine lv_iconst (v := (-1)) hx hb dX1_width_8 (by decide) ?_
    exact g_ret hx hb hr hlocks ((if_neg c_5).symm) dX1_width_9
end
section
/-! sets of conditions as numbers: kernels, corrections, growing, shrinking -/
set_option maxRecDepth 100000
/-- t is part of s -/
def sbs (t s : Nat) : Prop := ∀ i, t.testBit i = true → s.testBit i = true
theorem sbs_and {t s : Nat} : t &&& s = t ↔ sbs t s := by
  constructor
  · intro h i hi
    have h2 : (t &&& s).testBit i = true := by rw [h]; exact hi
    rw [Nat.testBit_and, Bool.and_eq_true] at h2
    exact h2.2
  · intro h
    apply Nat.eq_of_testBit_eq
    intro i
    rw [Nat.testBit_and]
    cases ht : t.testBit i
    · rfl
    · rw [h i ht]; rfl
theorem sbs_rfl (t : Nat) : sbs t t := fun _ h => h
theorem sbs_trans {a b c : Nat} (h : sbs a b) (h2 : sbs b c) : sbs a c := fun i hi => h2 i (h i hi)
theorem sbs_le {a b : Nat} (h : sbs a b) : a ≤ b := sub_le h
theorem sbs_anti {a b : Nat} (h : sbs a b) (h2 : sbs b a) : a = b := Nat.le_antisymm (sbs_le h) (sbs_le h2)
theorem sbs_0 (t : Nat) : sbs 0 t := fun i h => by rw [Nat.zero_testBit] at h; cases h
theorem bit_lt {t c i : Nat} (ht : t < 2 ^ c) (h : t.testBit i = true) : i < c := by
  rcases Nat.lt_or_ge i c with z | z
  · exact z
  · have := Nat.testBit_lt_two_pow (Nat.lt_of_lt_of_le ht (Nat.pow_le_pow_right (by decide : 2 > 0) z))
    rw [this] at h; cases h
theorem all_bit (c i : Nat) : (2 ^ c - 1).testBit i = decide (i < c) := Nat.testBit_two_pow_sub_one c i
theorem sbs_all {t c : Nat} (ht : t < 2 ^ c) : sbs t (2 ^ c - 1) := fun i h => by rw [all_bit]; exact decide_eq_true (bit_lt ht h)
theorem all_lt {t c : Nat} (h : sbs t (2 ^ c - 1)) : t < 2 ^ c := by
  have h1 := sbs_le h
  have h2 := Nat.two_pow_pos c
  omega
theorem p2_bit (k i : Nat) : (2 ^ k).testBit i = decide (k = i) := Nat.testBit_two_pow
/-- the rest -/
abbrev co (c t : Nat) : Nat := sdf (2 ^ c - 1) t
theorem co_bit (c t i : Nat) : (co c t).testBit i = (decide (i < c) && !t.testBit i) := by rw [sdf_bit, all_bit]
theorem co_lt (c t : Nat) : co c t < 2 ^ c := by
  have h1 := sdf_le (2 ^ c - 1) t
  have h2 := Nat.two_pow_pos c
  unfold co
  omega
theorem co_co {c t : Nat} (ht : t < 2 ^ c) : co c (co c t) = t := by
  apply Nat.eq_of_testBit_eq
  intro i
  rw [co_bit, co_bit]
  cases h : t.testBit i
  · simp
  · simp [bit_lt ht h]
def mono (ok : Nat → Bool) : Prop := ∀ s t, sbs t s → ok s = true → ok t = true
theorem mono_f {ok : Nat → Bool} (h : mono ok) {s t : Nat} (hs : sbs t s) (ht : ok t = false) : ok s = false := by
  cases e : ok s
  · rfl
  · rw [h s t hs e] at ht; cases ht
theorem kerL_iff {ok : Nat → Bool} {t : Nat} : ∀ n k, kerL ok t n k = true ↔ ∀ j, k ≤ j → j < k + n → t.testBit j = true → ok (sdf t (2 ^ j)) = true
  | 0, k => ⟨fun _ j h1 h2 => by omega, fun _ => rfl⟩
  | n + 1, k => by
    have ih := kerL_iff (ok := ok) (t := t) n (k + 1)
    constructor
    · intro h j h1 h2 hj
      by_cases e : t.testBit k = true ∧ ok (sdf t (2 ^ k)) = false
      · rw [kerL_t (by omega) e.1 e.2] at h; cases h
      · rw [kerL_f (by omega) (by cases ha : t.testBit k; exact Or.inl rfl; exact Or.inr (by cases hb : ok (sdf t (2 ^ k)); exact absurd ⟨ha, hb⟩ e; rfl))] at h
        rcases Nat.eq_or_lt_of_le h1 with z | z
        · subst z
          cases hb : ok (sdf t (2 ^ k))
          · exact absurd ⟨hj, hb⟩ e
          · rfl
        · exact ih.mp h j z (by omega) hj
    · intro h
      rw [kerL_f (by omega) (by cases ha : t.testBit k; exact Or.inl rfl; exact Or.inr (h k (Nat.le_refl k) (by omega) ha))]
      exact ih.mpr (fun j h1 h2 hj => h j (by omega) (by omega) hj)
theorem corL_iff {ok : Nat → Bool} {c t : Nat} : ∀ n k, corL ok c t n k = true ↔ ∀ j, k ≤ j → j < k + n → t.testBit j = true → ok (co c t ||| 2 ^ j) = false
  | 0, k => ⟨fun _ j h1 h2 => by omega, fun _ => rfl⟩
  | n + 1, k => by
    have ih := corL_iff (ok := ok) (c := c) (t := t) n (k + 1)
    constructor
    · intro h j h1 h2 hj
      by_cases e : t.testBit k = true ∧ ok (co c t ||| 2 ^ k) = true
      · rw [corL_t (by omega) e.1 e.2] at h; cases h
      · rw [corL_f (by omega) (by cases ha : t.testBit k; exact Or.inl rfl; exact Or.inr (by cases hb : ok (co c t ||| 2 ^ k); rfl; exact absurd ⟨ha, hb⟩ e))] at h
        rcases Nat.eq_or_lt_of_le h1 with z | z
        · subst z
          cases hb : ok (co c t ||| 2 ^ k)
          · rfl
          · exact absurd ⟨hj, hb⟩ e
        · exact ih.mp h j z (by omega) hj
    · intro h
      rw [corL_f (by omega) (by cases ha : t.testBit k; exact Or.inl rfl; exact Or.inr (h k (Nat.le_refl k) (by omega) ha))]
      exact ih.mpr (fun j h1 h2 hj => h j (by omega) (by omega) hj)
theorem isK_iff {ok : Nat → Bool} {c t : Nat} : isK ok c t = true ↔ ok t = false ∧ ∀ j, j < c → t.testBit j = true → ok (sdf t (2 ^ j)) = true := by
  unfold isK
  rw [Bool.and_eq_true, kerL_iff, Bool.not_eq_true']
  constructor
  · exact fun h => ⟨h.1, fun j hj hb => h.2 j (Nat.zero_le j) (by omega) hb⟩
  · exact fun h => ⟨h.1, fun j _ hj hb => h.2 j (by omega) hb⟩
theorem isC_iff {ok : Nat → Bool} {c t : Nat} : isC ok c t = true ↔ ok (co c t) = true ∧ ∀ j, j < c → t.testBit j = true → ok (co c t ||| 2 ^ j) = false := by
  unfold isC
  rw [Bool.and_eq_true, corL_iff]
  constructor
  · exact fun h => ⟨h.1, fun j hj hb => h.2 j (Nat.zero_le j) (by omega) hb⟩
  · exact fun h => ⟨h.1, fun j _ hj hb => h.2 j (by omega) hb⟩
theorem miss {a b : Nat} (h : sbs a b) (hne : a ≠ b) : ∃ j, b.testBit j = true ∧ a.testBit j = false := by
  apply Classical.byContradiction
  intro hn
  exact hne (sbs_anti h (fun i hi => by
    cases ha : a.testBit i
    · exact absurd ⟨i, hi, ha⟩ hn
    · rfl))
/-- a proper part of a kernel is possible -/
theorem ker_part {ok : Nat → Bool} {c a b : Nat} (hm : mono ok) (hb : b < 2 ^ c) (hK : isK ok c b = true) (h : sbs a b) (hne : a ≠ b) : ok a = true := by
  obtain ⟨j, h1, h2⟩ := miss h hne
  refine hm _ a ?_ ((isK_iff.mp hK).2 j (bit_lt hb h1) h1)
  intro i hi
  rw [sdf_bit, h i hi, p2_bit]
  by_cases e : j = i
  · subst e; rw [h2] at hi; cases hi
  · rw [decide_eq_false e]; rfl
/-- kernels aren't parts of one another -/
theorem ker_anti {ok : Nat → Bool} {c a b : Nat} (hm : mono ok) (hb : b < 2 ^ c) (hA : isK ok c a = true) (hB : isK ok c b = true) (h : sbs a b) : a = b := by
  apply Classical.byContradiction
  intro hne
  have h1 := ker_part hm hb hB h hne
  rw [(isK_iff.mp hA).1] at h1
  cases h1
/-- a possible set around the rest of a correction is that rest -/
theorem cor_big {ok : Nat → Bool} {c f s : Nat} (hm : mono ok) (hs : s < 2 ^ c) (hC : isC ok c f = true) (h : sbs (co c f) s) (hok : ok s = true) : co c f = s := by
  apply Classical.byContradiction
  intro hne
  obtain ⟨j, h1, h2⟩ := miss h hne
  have hj := bit_lt hs h1
  rw [co_bit, decide_eq_true hj, Bool.true_and] at h2
  have hfj : f.testBit j = true := by cases e : f.testBit j; rw [e] at h2; cases h2; rfl
  have h3 := (isC_iff.mp hC).2 j hj hfj
  have h4 := hm s (co c f ||| 2 ^ j) (fun i hi => by
    rw [Nat.testBit_or, p2_bit] at hi
    by_cases e : j = i
    · subst e; exact h1
    · rw [decide_eq_false e, Bool.or_false] at hi; exact h i hi) hok
  rw [h3] at h4
  cases h4
theorem cor_anti {ok : Nat → Bool} {c a b : Nat} (hm : mono ok) (ha : a < 2 ^ c) (hb : b < 2 ^ c) (hA : isC ok c a = true) (hB : isC ok c b = true) (h : sbs a b) : a = b := by
  have h1 : sbs (co c b) (co c a) := fun i hi => by
    rw [co_bit] at hi ⊢
    cases e : a.testBit i
    · simp at hi; simp [hi.1]
    · rw [h i e] at hi; simp at hi
  have h2 := cor_big hm (co_lt c a) hB h1 (isC_iff.mp hA).1
  rw [← co_co ha, ← co_co hb, h2]
theorem grow_inv {ok : Nat → Bool} {c s : Nat} (hm : mono ok) (hs : s < 2 ^ c) (hok : ok s = true) : ∀ k, k ≤ c → sbs s (growN ok s k) ∧ growN ok s k < 2 ^ c ∧ ok (growN ok s k) = true ∧ ∀ j, j < k → (growN ok s k).testBit j = false → ok (growN ok s k ||| 2 ^ j) = false
  | 0, _ => ⟨sbs_rfl s, hs, hok, fun j hj => by omega⟩
  | k + 1, hk => by
    obtain ⟨h1, h2, h3, h4⟩ := grow_inv hm hs hok k (by omega)
    cases e : ok (growN ok s k ||| 2 ^ k)
    · rw [growN_f e]
      refine ⟨h1, h2, h3, fun j hj hb => ?_⟩
      rcases Nat.eq_or_lt_of_le (Nat.le_of_lt_succ hj) with z | z
      · subst z; exact e
      · exact h4 j z hb
    · rw [growN_t e]
      refine ⟨fun i hi => by rw [Nat.testBit_or, h1 i hi]; rfl, or_bit_lt h2 (by omega), e, fun j hj hb => ?_⟩
      rw [Nat.testBit_or, p2_bit] at hb
      rcases Nat.eq_or_lt_of_le (Nat.le_of_lt_succ hj) with z | z
      · subst z; simp at hb
      · have hb2 : (growN ok s k).testBit j = false := by cases q : (growN ok s k).testBit j; rfl; rw [q] at hb; simp at hb
        refine mono_f hm ?_ (h4 j z hb2)
        intro i hi
        rw [Nat.testBit_or] at hi ⊢
        rw [Nat.testBit_or]
        cases q : (growN ok s k).testBit i
        · rw [q] at hi; simp at hi; simp [hi]
        · simp
/-- what growing finds: a correction whose rest is around s -/
theorem grow_cor {ok : Nat → Bool} {c s : Nat} (hm : mono ok) (hs : s < 2 ^ c) (hok : ok s = true) : sbs s (growN ok s c) ∧ growN ok s c < 2 ^ c ∧ isC ok c (co c (growN ok s c)) = true := by
  obtain ⟨h1, h2, h3, h4⟩ := grow_inv hm hs hok c (Nat.le_refl c)
  refine ⟨h1, h2, isC_iff.mpr ?_⟩
  rw [co_co h2]
  refine ⟨h3, fun j hj hb => h4 j hj ?_⟩
  rw [co_bit] at hb
  cases q : (growN ok s c).testBit j
  · rfl
  · rw [q] at hb; simp at hb
theorem shr_inv {ok : Nat → Bool} {s : Nat} (hm : mono ok) (hok : ok s = false) : ∀ k, sbs (shrN ok s k) s ∧ ok (shrN ok s k) = false ∧ ∀ j, j < k → (shrN ok s k).testBit j = true → ok (sdf (shrN ok s k) (2 ^ j)) = true
  | 0 => ⟨sbs_rfl s, hok, fun j hj => by omega⟩
  | k + 1 => by
    obtain ⟨h1, h3, h4⟩ := shr_inv hm hok k
    cases e : ok (sdf (shrN ok s k) (2 ^ k))
    · rw [shrN_f e]
      have hp : sbs (sdf (shrN ok s k) (2 ^ k)) (shrN ok s k) := fun i hi => by
        rw [sdf_bit] at hi
        cases q : (shrN ok s k).testBit i
        · rw [q] at hi; cases hi
        · rfl
      refine ⟨sbs_trans hp h1, e, fun j hj hb => ?_⟩
      rcases Nat.eq_or_lt_of_le (Nat.le_of_lt_succ hj) with z | z
      · subst z; rw [sdf_bit, p2_bit] at hb; simp at hb
      · refine hm _ _ ?_ (h4 j z (hp j hb))
        intro i hi
        rw [sdf_bit] at hi ⊢
        rw [sdf_bit] at hi
        cases q : (shrN ok s k).testBit i
        · rw [q] at hi; simp at hi
        · rw [q] at hi; simp at hi; simp [hi.2]
    · rw [shrN_t e]
      refine ⟨h1, h3, fun j hj hb => ?_⟩
      rcases Nat.eq_or_lt_of_le (Nat.le_of_lt_succ hj) with z | z
      · subst z; exact e
      · exact h4 j z hb
theorem shr_ker {ok : Nat → Bool} {c s : Nat} (hm : mono ok) (hok : ok s = false) : sbs (shrN ok s c) s ∧ isK ok c (shrN ok s c) = true := by
  obtain ⟨h1, h3, h4⟩ := shr_inv hm hok c
  exact ⟨h1, isK_iff.mpr ⟨h3, h4⟩⟩
/-- the next part of a below p -/
theorem prev_part : ∀ (n a p t : Nat), a < 2 ^ n → p < 2 ^ n → t < 2 ^ n → p &&& a = p → t &&& a = t → t < p → t ≤ (p - 1) &&& a
  | 0, a, p, t, h1, h2, h3, _, _, h6 => by omega
  | n + 1, a, p, t, h1, h2, h3, h4, h5, h6 => by
    have hd : ∀ x y : Nat, (x &&& y) / 2 = x / 2 &&& y / 2 := fun x y => Nat.and_div_two
    have hm2 : ∀ x y : Nat, (x &&& y) % 2 = (x % 2) * (y % 2) := fun x y => by
      rw [Nat.and_mod_two_pow (n := 1) |> fun h => (by simpa using h : (x &&& y) % 2 = (x % 2) &&& (y % 2))]
      rcases Nat.mod_two_eq_zero_or_one x with ex | ex <;> rcases Nat.mod_two_eq_zero_or_one y with ey | ey <;> rw [ex, ey] <;> rfl
    have a1 : p / 2 &&& a / 2 = p / 2 := by rw [← hd, h4]
    have a2 : t / 2 &&& a / 2 = t / 2 := by rw [← hd, h5]
    have b2 : (t % 2) * (a % 2) = t % 2 := by rw [← hm2, h5]
    have e : (p - 1) &&& a = 2 * (((p - 1) &&& a) / 2) + ((p - 1) &&& a) % 2 := by omega
    rw [e, hd, hm2]
    have hpw : 2 ^ (n + 1) = 2 * 2 ^ n := by rw [Nat.pow_succ]; omega
    rcases Nat.mod_two_eq_zero_or_one p with ep | ep
    · have e1 : (p - 1) / 2 = p / 2 - 1 := by omega
      have e2 : (p - 1) % 2 = 1 := by omega
      have ih := prev_part n (a / 2) (p / 2) (t / 2) (by omega) (by omega) (by omega) a1 a2 (by omega)
      rw [e1, e2]
      have h7 : t % 2 ≤ a % 2 := by
        rcases Nat.mod_two_eq_zero_or_one a with ea | ea
        · rw [ea] at b2; omega
        · omega
      omega
    · have e1 : (p - 1) / 2 = p / 2 := by omega
      have e2 : (p - 1) % 2 = 0 := by omega
      rw [e1, e2, a1]
      omega
end
section
/-! at most 126 sets of nine of which none is part of another; sorted places; the map of waiting sets. fb_holes began as a row of laws/COUNTS.to-paste -/
set_option maxRecDepth 100000
theorem fb_holes : ∀ (m n : Nat) (f : Nat → Nat), (∀ i, i < n → f i < m) → (∀ i j, i < j → j < n → f i ≠ f j) → n ≤ m := by
  intro m
  induction m with
  | zero =>
    intro n f h1 _
    rcases Nat.eq_zero_or_pos n with h | h
    · omega
    · exact absurd (h1 0 h) (Nat.not_lt_zero _)
  | succ m ih =>
    intro n f h1 h2
    by_cases hx : ∃ i, i < n ∧ f i = m
    · obtain ⟨a, ha, hfa⟩ := hx
      have hg := ih (n - 1) (fun i => if i < a then f i else f (i + 1)) (by
        intro i hi
        by_cases q : i < a
        · simp only [if_pos q]
          have b1 := h1 i (by omega)
          have b2 := h2 i a q ha
          omega
        · simp only [if_neg q]
          have b1 := h1 (i + 1) (by omega)
          have b2 := h2 a (i + 1) (by omega) (by omega)
          omega) (by
        intro i j hij hj
        by_cases q : i < a
        · by_cases r : j < a
          · simp only [if_pos q, if_pos r]
            exact h2 i j hij (by omega)
          · simp only [if_pos q, if_neg r]
            exact h2 i (j + 1) (by omega) (by omega)
        · have r : ¬ j < a := by omega
          simp only [if_neg q, if_neg r]
          exact h2 (i + 1) (j + 1) (by omega) (by omega))
      omega
    · have hg := ih n f (fun i hi => by
        have b1 := h1 i hi
        have b2 : f i ≠ m := fun e => hx ⟨i, hi, e⟩
        omega) h2
      omega
def chs : List (List Nat) := [[0, 1, 3, 7, 15, 31, 63, 127, 255, 511], [256, 257, 259, 263, 271, 287, 319, 383], [128, 129, 131, 135, 143, 159, 191, 447], [384, 385, 387, 391, 399, 415], [64, 65, 67, 71, 79, 95, 223, 479], [320, 321, 323, 327, 335, 351], [192, 193, 195, 199, 207, 463], [448, 449, 451, 455], [32, 33, 35, 39, 47, 111, 239, 495], [288, 289, 291, 295, 303, 367], [160, 161, 163, 167, 175, 431], [416, 417, 419, 423], [96, 97, 99, 103, 231, 487], [352, 353, 355, 359], [224, 225, 227, 483], [480, 481], [16, 17, 19, 23, 55, 119, 247, 503], [272, 273, 275, 279, 311, 375], [144, 145, 147, 151, 183, 439], [400, 401, 403, 407], [80, 81, 83, 87, 215, 471], [336, 337, 339, 343], [208, 209, 211, 467], [464, 465], [48, 49, 51, 115, 243, 499], [304, 305, 307, 371], [176, 177, 179, 435], [432, 433], [112, 113, 241, 497], [368, 369], [240, 496], [8, 9, 11, 27, 59, 123, 251, 507], [264, 265, 267, 283, 315, 379], [136, 137, 139, 155, 187, 443], [392, 393, 395, 411], [72, 73, 75, 91, 219, 475], [328, 329, 331, 347], [200, 201, 203, 459], [456, 457], [40, 41, 43, 107, 235, 491], [296, 297, 299, 363], [168, 169, 171, 427], [424, 425], [104, 105, 233, 489], [360, 361], [232, 488], [24, 25, 57, 121, 249, 505], [280, 281, 313, 377], [152, 153, 185, 441], [408, 409], [88, 89, 217, 473], [344, 345], [216, 472], [56, 120, 248, 504], [312, 376], [184, 440], [4, 5, 13, 29, 61, 125, 253, 509], [260, 261, 269, 285, 317, 381], [132, 133, 141, 157, 189, 445], [388, 389, 397, 413], [68, 69, 77, 93, 221, 477], [324, 325, 333, 349], [196, 197, 205, 461], [452, 453], [36, 37, 45, 109, 237, 493], [292, 293, 301, 365], [164, 165, 173, 429], [420, 421], [100, 101, 229, 485], [356, 357], [228, 484], [20, 21, 53, 117, 245, 501], [276, 277, 309, 373], [148, 149, 181, 437], [404, 405], [84, 85, 213, 469], [340, 341], [212, 468], [52, 116, 244, 500], [308, 372], [180, 436], [12, 28, 60, 124, 252, 508], [268, 284, 316, 380], [140, 156, 188, 444], [396, 412], [76, 92, 220, 476], [332, 348], [204, 460], [44, 108, 236, 492], [300, 364], [172, 428], [2, 6, 14, 30, 62, 126, 254, 510], [258, 262, 270, 286, 318, 382], [130, 134, 142, 158, 190, 446], [386, 390, 398, 414], [66, 70, 78, 94, 222, 478], [322, 326, 334, 350], [194, 198, 206, 462], [450, 454], [34, 38, 46, 110, 238, 494], [290, 294, 302, 366], [162, 166, 174, 430], [418, 422], [98, 102, 230, 486], [354, 358], [226, 482], [18, 22, 54, 118, 246, 502], [274, 278, 310, 374], [146, 150, 182, 438], [402, 406], [82, 86, 214, 470], [338, 342], [210, 466], [50, 114, 242, 498], [306, 370], [178, 434], [10, 26, 58, 122, 250, 506], [266, 282, 314, 378], [138, 154, 186, 442], [394, 410], [74, 90, 218, 474], [330, 346], [202, 458], [42, 106, 234, 490], [298, 362], [170, 426]]
theorem chs_len : chs.length = 126 := by decide +kernel
theorem chs_all : ∀ a, a < 512 → chs.any (fun l => l.contains a) = true := by decide +kernel
theorem chs_cmp : chs.all (fun l => l.all (fun a => l.all (fun b => a &&& b == a || a &&& b == b))) = true := by decide +kernel
def chI (a : Nat) : Nat := chs.findIdx (fun l : List Nat => l.contains a)
theorem chI_lt {a : Nat} (h : a < 512) : chI a < 126 := by
  rw [← chs_len]
  apply List.findIdx_lt_length_of_exists
  exact List.any_eq_true.mp (chs_all a h)
theorem chI_in {a : Nat} (h : a < 512) : ∃ l, chs[chI a]? = some l ∧ a ∈ l := by
  have h1 : chI a < chs.length := by rw [chs_len]; exact chI_lt h
  refine ⟨chs[chI a], List.getElem?_eq_getElem h1, ?_⟩
  have h2 := List.findIdx_getElem (xs := chs) (p := fun l : List Nat => l.contains a) (w := h1)
  exact List.contains_iff_mem.mp h2
theorem chI_cmp {a b : Nat} (ha : a < 512) (hb : b < 512) (e : chI a = chI b) : sbs a b ∨ sbs b a := by
  obtain ⟨l, h1, h2⟩ := chI_in ha
  obtain ⟨l', h1', h2'⟩ := chI_in hb
  rw [← e, h1] at h1'
  obtain rfl := Option.some.inj h1'
  have h3 := List.all_eq_true.mp (List.all_eq_true.mp (List.all_eq_true.mp chs_cmp l (List.mem_of_getElem? h1)) a h2) b h2'
  rw [Bool.or_eq_true, beq_iff_eq, beq_iff_eq] at h3
  rcases h3 with h3 | h3
  · exact Or.inl (sbs_and.mp h3)
  · exact Or.inr (sbs_and.mp (by rw [Nat.and_comm]; exact h3))
/-- strictly growing places -/
def srt (g : Nat → Nat) (z : Nat) : Prop := ∀ i j, i < j → j < z → g i < g j
theorem srt_inj {g : Nat → Nat} {z i j : Nat} (h : srt g z) (hi : i < z) (hj : j < z) (e : g i = g j) : i = j := by
  rcases Nat.lt_trichotomy i j with q | q | q
  · have := h i j q hj; omega
  · exact q
  · have := h j i q hi; omega
theorem sperner {g : Nat → Nat} {z : Nat} (hs : srt g z) (hl : ∀ i, i < z → g i < 512) (ha : ∀ i j, i < z → j < z → sbs (g i) (g j) → g i = g j) : z ≤ 126 := by
  refine fb_holes 126 z (fun i => chI (g i)) (fun i hi => chI_lt (hl i hi)) (fun i j hij hj e => ?_)
  have hi : i < z := by omega
  have hne := hs i j hij hj
  rcases chI_cmp (hl i hi) (hl j hj) e with q | q
  · have := ha i j hi hj q; omega
  · have := ha j i hj hi q; omega
def movF (f : Nat → Int32) (a z : Nat) : Nat → Int32 := fun i => if a < i ∧ i ≤ z then f (i - 1) else f i
theorem movF_0 (f : Nat → Int32) (z : Nat) : movF f z z = f := funext fun i => if_neg (by omega)
theorem movF_lo (f : Nat → Int32) {a z i : Nat} (h : i ≤ a) : movF f a z i = f i := if_neg (by omega)
theorem movF_s (f : Nat → Int32) {a z : Nat} (ha : 0 < a) (hz : a ≤ z) : upd (movF f a z) a (movF f a z (a - 1)) = movF f (a - 1) z := by
  funext i
  rw [movF_lo f (by omega : a - 1 ≤ a)]
  unfold upd movF
  by_cases h : i = a
  · subst h; rw [if_pos rfl, if_pos (by omega)]
  · rw [if_neg h]
    by_cases h2 : a < i ∧ i ≤ z
    · rw [if_pos h2, if_pos (by omega)]
    · rw [if_neg h2, if_neg (by omega)]
def insN (g : Nat → Nat) (a s : Nat) : Nat → Nat := fun i => if i < a then g i else if i = a then s else g (i - 1)
theorem insN_lo {g : Nat → Nat} {a s i : Nat} (h : i < a) : insN g a s i = g i := if_pos h
theorem insN_at {g : Nat → Nat} {a s : Nat} : insN g a s a = s := by unfold insN; rw [if_neg (by omega), if_pos rfl]
theorem insN_hi {g : Nat → Nat} {a s i : Nat} (h : a < i) : insN g a s i = g (i - 1) := by unfold insN; rw [if_neg (by omega), if_neg (by omega)]
theorem insN_srt {g : Nat → Nat} {a s z : Nat} (hs : srt g z) (ha : a ≤ z) (h1 : ∀ i, a ≤ i → i < z → s < g i) (h2 : ∀ i, i < a → g i < s) : srt (insN g a s) (z + 1) := by
  intro i j hij hj
  rcases Nat.lt_trichotomy i a with q | q | q
  · rw [insN_lo q]
    rcases Nat.lt_trichotomy j a with r | r | r
    · rw [insN_lo r]; exact hs i j hij (by omega)
    · subst r; rw [insN_at]; exact h2 i q
    · rw [insN_hi r]
      rcases Nat.lt_or_ge i (j - 1) with u | u
      · exact hs i (j - 1) u (by omega)
      · omega
  · subst q
    rw [insN_at, insN_hi hij]
    exact h1 (j - 1) (by omega) (by omega)
  · rw [insN_hi q, insN_hi (by omega)]
    exact hs (i - 1) (j - 1) (by omega) (by omega)
theorem insN_mem {g : Nat → Nat} {a s z x : Nat} (ha : a ≤ z) : (∃ i, i < z + 1 ∧ insN g a s i = x) ↔ x = s ∨ ∃ i, i < z ∧ g i = x := by
  constructor
  · rintro ⟨i, hi, e⟩
    rcases Nat.lt_trichotomy i a with q | q | q
    · rw [insN_lo q] at e; exact Or.inr ⟨i, by omega, e⟩
    · subst q; rw [insN_at] at e; exact Or.inl e.symm
    · rw [insN_hi q] at e; exact Or.inr ⟨i - 1, by omega, e⟩
  · rintro (e | ⟨i, hi, e⟩)
    · exact ⟨a, by omega, by rw [insN_at, e]⟩
    · rcases Nat.lt_or_ge i a with q | q
      · exact ⟨i, by omega, by rw [insN_lo q, e]⟩
      · exact ⟨i + 1, by omega, by rw [insN_hi (by omega)]; exact e⟩
theorem insN_arr {g : Nat → Nat} {f : Nat → Int32} {a s z : Nat} (ha : a ≤ z) (hf : ∀ i, i < z → f i = nI (g i)) : ∀ i, i < z + 1 → upd (movF f a z) a (nI s) i = nI (insN g a s i) := by
  intro i hi
  unfold upd movF
  rcases Nat.lt_trichotomy i a with q | q | q
  · rw [insN_lo q, if_neg (by omega), if_neg (by omega)]; exact hf i (by omega)
  · subst q; rw [insN_at, if_pos rfl]
  · rw [insN_hi q, if_neg (by omega), if_pos (by omega)]; exact hf (i - 1) (by omega)
theorem srt_ext : ∀ (l1 l2 : List Nat), l1.Pairwise (· < ·) → l2.Pairwise (· < ·) → (∀ x, x ∈ l1 ↔ x ∈ l2) → l1 = l2
  | [], [], _, _, _ => rfl
  | [], b :: l2, _, _, h => absurd ((h b).mpr List.mem_cons_self) List.not_mem_nil
  | a :: l1, [], _, _, h => absurd ((h a).mp List.mem_cons_self) List.not_mem_nil
  | a :: l1, b :: l2, h1, h2, h => by
    rw [List.pairwise_cons] at h1 h2
    have e : a = b := by
      rcases List.mem_cons.mp ((h a).mp List.mem_cons_self) with q | q
      · exact q
      · rcases List.mem_cons.mp ((h b).mpr List.mem_cons_self) with r | r
        · exact r.symm
        · have := h2.1 a q; have := h1.1 b r; omega
    subst e
    rw [srt_ext l1 l2 h1.2 h2.2 (fun x => ⟨fun hx => by
      rcases List.mem_cons.mp ((h x).mp (List.mem_cons_of_mem _ hx)) with q | q
      · have := h1.1 x hx; omega
      · exact q, fun hx => by
      rcases List.mem_cons.mp ((h x).mpr (List.mem_cons_of_mem _ hx)) with q | q
      · have := h2.1 x hx; omega
      · exact q⟩)]
theorem filt_eq {P : Nat → Bool} {g : Nat → Nat} {z N : Nat} (hs : srt g z) (h : ∀ x, (∃ i, i < z ∧ g i = x) ↔ x < N ∧ P x = true) : (List.range N).filter P = (List.range z).map g := by
  apply srt_ext
  · exact List.Pairwise.filter _ List.pairwise_lt_range
  · rw [List.pairwise_iff_getElem]
    intro i j hi hj hij
    rw [List.length_map, List.length_range] at hi hj
    rw [List.getElem_map, List.getElem_map, List.getElem_range, List.getElem_range]
    exact hs i j hij hj
  · intro x
    rw [List.mem_filter, List.mem_range, ← h, List.mem_map]
    constructor
    · rintro ⟨i, hi, e⟩; exact ⟨i, List.mem_range.mpr hi, e⟩
    · rintro ⟨i, hi, e⟩; exact ⟨i, List.mem_range.mp hi, e⟩
theorem bt_p2 {n i : Nat} (hn : n < 32) (hi : i < 32) : bt ((1 : Int32) <<< (nI n &&& 31)) i = decide (i = n) := by
  rw [b_shl n hn _ hi]
  by_cases h : n ≤ i
  · rw [bt_1 (i - n) (by omega), decide_eq_true h, Bool.true_and]
    by_cases h2 : i = n
    · rw [decide_eq_true h2, decide_eq_true (by omega)]
    · rw [decide_eq_false h2, decide_eq_false (by omega)]
  · rw [decide_eq_false h, Bool.false_and, decide_eq_false (by omega)]
theorem wtB_tk (wt : Nat → Int32) (t x : Nat) : wtB (tkO wt t) x = (wtB wt x && !decide (x = t)) := by
  unfold wtB tkO upd
  by_cases h : x / 32 = t / 32
  · rw [if_pos h, b_and, b_xor, bt_p2 (Nat.mod_lt _ (by decide)) (Nat.mod_lt _ (by decide)), b_m1 _ (Nat.mod_lt _ (by decide)), Bool.xor_true, h]
    by_cases e : x = t
    · subst e; simp
    · rw [decide_eq_false e, decide_eq_false (by omega)]
  · rw [if_neg h, decide_eq_false (by intro e; exact h (by rw [e])), Bool.not_false, Bool.and_true]
theorem wtB_m1 {wt : Nat → Int32} (h : ∀ k, k < 16 → wt k = -1) {t : Nat} (ht : t < 512) : wtB wt t = true := by
  unfold wtB
  rw [h _ (by omega)]
  exact b_m1 _ (Nat.mod_lt _ (by decide))
end
section
/-! what solve finds, in plain numbers -/
set_option maxRecDepth 100000
theorem comF_bit (w : Nat → Int32) (p : Int32) {v : Nat} (hv : v < 32) : ∀ k, k ≤ 32 → (bt (comF w p k) v = true ↔ ∀ j, j < k → bt p j = true → bt (w j) v = true)
  | 0, _ => ⟨fun _ j hj => by omega, fun _ => b_m1 v hv⟩
  | k + 1, hk => by
    have ih := comF_bit w p hv k (by omega)
    by_cases h : sb p k = 1
    · rw [comF_t h, b_and, Bool.and_eq_true, ih]
      have hb := (sb_1 p (by omega : k < 32)).mp h
      constructor
      · rintro ⟨h1, h2⟩ j hj hpj
        rcases Nat.eq_or_lt_of_le (Nat.le_of_lt_succ hj) with z | z
        · subst z; exact h2
        · exact h1 j z hpj
      · exact fun h1 => ⟨fun j hj => h1 j (by omega), h1 k (by omega) hb⟩
    · rw [comF_f h, ih]
      have hb : ¬ bt p k = true := fun z => h ((sb_1 p (by omega : k < 32)).mpr z)
      constructor
      · intro h1 j hj hpj
        rcases Nat.eq_or_lt_of_le (Nat.le_of_lt_succ hj) with z | z
        · subst z; exact absurd hpj hb
        · exact h1 j z hpj
      · exact fun h1 j hj => h1 j (by omega)
theorem nz_bit {x : Int32} : ¬ x = 0 ↔ ∃ v, v < 32 ∧ bt x v = true := by
  constructor
  · intro h
    apply Classical.byContradiction
    intro hn
    apply h
    apply b_ext
    intro i hi
    rw [b_0]
    cases e : bt x i
    · rfl
    · exact absurd ⟨i, hi, e⟩ hn
  · rintro ⟨v, _, hb⟩ e
    rw [e, b_0] at hb
    cases hb
theorem okB_iff {w : Nat → Int32} {c t : Nat} (hc : c ≤ 9) : okB w c t = true ↔ ∃ v, v < 32 ∧ ∀ j, j < c → t.testBit j = true → bt (w j) v = true := by
  unfold okB
  rw [decide_eq_true_eq, nz_bit]
  constructor
  · rintro ⟨v, hv, h⟩
    refine ⟨v, hv, fun j hj hb => (comF_bit w _ hv c (by omega)).mp h j hj ?_⟩
    rw [bt_nI _ (by omega)]; exact hb
  · rintro ⟨v, hv, h⟩
    refine ⟨v, hv, (comF_bit w _ hv c (by omega)).mpr fun j hj hb => h j hj ?_⟩
    rw [bt_nI _ (by omega)] at hb; exact hb
theorem okB_mono {w : Nat → Int32} {c : Nat} (hc : c ≤ 9) : mono (okB w c) := by
  intro s t hs h
  obtain ⟨v, hv, h1⟩ := (okB_iff hc).mp h
  exact (okB_iff hc).mpr ⟨v, hv, fun j hj hb => h1 j hj (hs j hb)⟩
theorem okB_0 {w : Nat → Int32} {c : Nat} (hc : c ≤ 9) : okB w c 0 = true := (okB_iff hc).mpr ⟨0, by decide, fun j hj hb => by rw [Nat.zero_testBit] at hb; cases hb⟩
def KL (ok : Nat → Bool) (c : Nat) : List Nat := (List.range (2 ^ c)).filter (isK ok c)
def FL (ok : Nat → Bool) (c : Nat) : List Nat := (List.range (2 ^ c)).filter (isC ok c)
def Lst (f : Nat → Int32) (L : List Nat) : Prop := ∀ i, i < L.length → f i = nI (L.getD i 0)
def XSol (w : Nat → Int32) (c : Nat) (kl fl : Nat → Int32) (y z : Nat) : Prop := y = (KL (okB w c) c).length ∧ z = (FL (okB w c) c).length ∧ Lst kl (KL (okB w c) c) ∧ Lst fl (FL (okB w c) c)
/-- the state of solve's loop: the kernels g, the corrections h so far; the sets from v on are off the map -/
def SInv (ok : Nat → Bool) (c : Nat) (kl fl wt : Nat → Int32) (g h : Nat → Nat) (y z v : Nat) : Prop :=
  srt g y ∧ srt h z ∧ (∀ i, i < y → g i < 2 ^ c ∧ isK ok c (g i) = true ∧ kl i = nI (g i)) ∧ (∀ i, i < z → h i < 2 ^ c ∧ isC ok c (h i) = true ∧ fl i = nI (h i)) ∧
  (∀ t, t < 2 ^ c → (wtB wt t = true ↔ (∀ i, i < y → ¬ sbs (g i) t) ∧ ∀ i, i < z → ¬ sbs t (co c (h i)))) ∧ ∀ t, v ≤ t → t < 2 ^ c → wtB wt t = false
theorem SInv_init (ok : Nat → Bool) {c : Nat} (hc : c ≤ 9) (kl fl : Nat → Int32) {wt : Nat → Int32} (hw : ∀ k, k < 16 → wt k = -1) : SInv ok c kl fl wt (fun _ => 0) (fun _ => 0) 0 0 (2 ^ c) := by
  have hp := pow9 hc
  refine ⟨fun i j _ h => by omega, fun i j _ h => by omega, fun i h => by omega, fun i h => by omega, fun t ht => ?_, fun t h1 h2 => by omega⟩
  rw [wtB_m1 hw (by omega)]
  exact ⟨fun _ => ⟨fun i h => by omega, fun i h => by omega⟩, fun _ => rfl⟩
theorem SInv_skip {ok : Nat → Bool} {c : Nat} {kl fl wt : Nat → Int32} {g h : Nat → Nat} {y z v : Nat} (hI : SInv ok c kl fl wt g h y z (v + 1)) (hv : wtB wt v = false) : SInv ok c kl fl wt g h y z v := by
  obtain ⟨h1, h2, h3, h4, h5, h6⟩ := hI
  refine ⟨h1, h2, h3, h4, h5, fun t ht ht2 => ?_⟩
  rcases Nat.eq_or_lt_of_le ht with e | e
  · subst e; exact hv
  · exact h6 t e ht2
theorem sperner' {g : Nat → Nat} {z s : Nat} (hs : srt g z) (hl : ∀ i, i < z → g i < 512) (hs5 : s < 512) (hne : ∀ i, i < z → g i ≠ s) (ha : ∀ i j, i < z → j < z → sbs (g i) (g j) → g i = g j) (h1 : ∀ i, i < z → sbs (g i) s → g i = s) (h2 : ∀ i, i < z → sbs s (g i) → s = g i) : z ≤ 125 := by
  have := fb_holes 126 (z + 1) (fun i => chI (if i < z then g i else s)) (fun i hi => by
    apply chI_lt
    by_cases q : i < z
    · rw [if_pos q]; exact hl i q
    · rw [if_neg q]; exact hs5) (fun i j hij hj e => by
    have hi : i < z := by omega
    simp only [if_pos hi] at e
    by_cases q : j < z
    · rw [if_pos q] at e
      have := hs i j hij q
      rcases chI_cmp (hl i hi) (hl j q) e with r | r
      · have := ha i j hi q r; omega
      · have := ha j i q hi r; omega
    · rw [if_neg q] at e
      rcases chI_cmp (hl i hi) hs5 e with r | r
      · exact hne i hi (h1 i hi r)
      · exact hne i hi (h2 i hi r).symm)
  omega
theorem ins_pos {g : Nat → Nat} {f : Nat → Int32} {a s z : Nat} (hs : srt g z) (hf : ∀ i, i < z → f i = nI (g i)) (hl : ∀ i, i < z → g i < 512) (hs5 : s < 512) (hne : ∀ i, i < z → g i ≠ s) (ha : a ≤ z) (h1 : ∀ i, a ≤ i → i < z → nI s < f i) (h2 : a = 0 ∨ f (a - 1) ≤ nI s) : (∀ i, a ≤ i → i < z → s < g i) ∧ ∀ i, i < a → g i < s := by
  constructor
  · intro i h3 h4
    have := h1 i h3 h4
    have hb := hl i h4
    rw [hf i h4, nI_ltI (by omega) (by omega)] at this
    exact this
  · intro i hi
    rcases h2 with h2 | h2
    · omega
    · have hb := hl (a - 1) (by omega)
      rw [hf (a - 1) (by omega), nI_leI (by omega) (by omega)] at h2
      have h3 := hne (a - 1) (by omega)
      rcases Nat.lt_or_ge i (a - 1) with q | q
      · have := hs i (a - 1) q (by omega); omega
      · have e : i = a - 1 := by omega
        subst e; omega
/-- a set that waits and is possible: its correction is new -/
theorem S_cor {ok : Nat → Bool} {c : Nat} {kl fl wt : Nat → Int32} {g h : Nat → Nat} {y z v v' : Nat} (hc : c ≤ 9) (hm : mono ok) (hI : SInv ok c kl fl wt g h y z v') (hv : v < 2 ^ c) (hw : wtB wt v = true) (hok : ok v = true) : (∀ i, i < z → h i ≠ co c (growN ok v c)) ∧ z ≤ 125 := by
  obtain ⟨h1, h2, h3, h4, h5, h6⟩ := hI
  have hp := pow9 hc
  obtain ⟨g1, g2, g3⟩ := grow_cor hm hv hok
  have hn : ∀ i, i < z → h i ≠ co c (growN ok v c) := fun i hi e => by
    have := ((h5 v hv).mp hw).2 i hi
    rw [e, co_co g2] at this
    exact this g1
  have hcl := co_lt c (growN ok v c)
  exact ⟨hn, sperner' h2 (fun i hi => by have := (h4 i hi).1; omega) (by omega) hn (fun i j hi hj => cor_anti hm (h4 i hi).1 (h4 j hj).1 (h4 i hi).2.1 (h4 j hj).2.1) (fun i hi => cor_anti hm (h4 i hi).1 hcl (h4 i hi).2.1 g3) (fun i hi => cor_anti hm hcl (h4 i hi).1 g3 (h4 i hi).2.1)⟩
theorem S_ker {ok : Nat → Bool} {c : Nat} {kl fl wt : Nat → Int32} {g h : Nat → Nat} {y z v v' : Nat} (hc : c ≤ 9) (hm : mono ok) (hI : SInv ok c kl fl wt g h y z v') (hv : v < 2 ^ c) (hw : wtB wt v = true) (hok : ok v = false) : (∀ i, i < y → g i ≠ shrN ok v c) ∧ y ≤ 125 ∧ shrN ok v c < 2 ^ c := by
  obtain ⟨h1, h2, h3, h4, h5, h6⟩ := hI
  have hp := pow9 hc
  obtain ⟨g1, g3⟩ := shr_ker (c := c) hm hok
  have hcl : shrN ok v c < 2 ^ c := Nat.lt_of_le_of_lt (sbs_le g1) hv
  have hn : ∀ i, i < y → g i ≠ shrN ok v c := fun i hi e => by
    have := ((h5 v hv).mp hw).1 i hi
    rw [e] at this
    exact this g1
  exact ⟨hn, sperner' h1 (fun i hi => by have := (h3 i hi).1; omega) (by omega) hn (fun i j hi hj => ker_anti hm (h3 j hj).1 (h3 i hi).2.1 (h3 j hj).2.1) (fun i hi => ker_anti hm hcl (h3 i hi).2.1 g3) (fun i hi => ker_anti hm (h3 i hi).1 g3 (h3 i hi).2.1), hcl⟩
theorem SInv_cor {ok : Nat → Bool} {c : Nat} {kl fl wt wt' : Nat → Int32} {g h : Nat → Nat} {y z v a : Nat} (hc : c ≤ 9) (hm : mono ok) (hI : SInv ok c kl fl wt g h y z (v + 1)) (hv : v < 2 ^ c) (hw : wtB wt v = true) (hok : ok v = true) (ha : a ≤ z) (a1 : ∀ i, a ≤ i → i < z → nI (co c (growN ok v c)) < fl i) (a2 : a = 0 ∨ fl (a - 1) ≤ nI (co c (growN ok v c))) (hw' : ∀ t, t < 512 → wtB wt' t = (wtB wt t && !decide (t &&& growN ok v c = t))) : SInv ok c kl (upd (movF fl a z) a (nI (co c (growN ok v c)))) wt' g (insN h a (co c (growN ok v c))) y (z + 1) v := by
  obtain ⟨hn, hz⟩ := S_cor hc hm hI hv hw hok
  obtain ⟨h1, h2, h3, h4, h5, h6⟩ := hI
  have hp := pow9 hc
  obtain ⟨g1, g2, g3⟩ := grow_cor hm hv hok
  have hcl := co_lt c (growN ok v c)
  obtain ⟨p1, p2⟩ := ins_pos h2 (fun i hi => (h4 i hi).2.2) (fun i hi => by have := (h4 i hi).1; omega) (by omega) hn ha a1 a2
  have hmem := fun x => insN_mem (g := h) (s := co c (growN ok v c)) (x := x) ha
  have hwt : ∀ t, t < 2 ^ c → (wtB wt' t = true ↔ (∀ i, i < y → ¬ sbs (g i) t) ∧ ∀ i, i < z + 1 → ¬ sbs t (co c (insN h a (co c (growN ok v c)) i))) := by
    intro t ht
    rw [hw' t (by omega), Bool.and_eq_true, h5 t ht, Bool.not_eq_true', decide_eq_false_iff_not, sbs_and]
    constructor
    · rintro ⟨⟨q1, q2⟩, q3⟩
      refine ⟨q1, fun i hi => ?_⟩
      rcases (hmem _).mp ⟨i, hi, rfl⟩ with e | ⟨j, hj, e⟩
      · rw [e, co_co g2]; exact q3
      · rw [← e]; exact q2 j hj
    · rintro ⟨q1, q2⟩
      refine ⟨⟨q1, fun i hi => ?_⟩, ?_⟩
      · obtain ⟨j, hj, e⟩ := (hmem (h i)).mpr (Or.inr ⟨i, hi, rfl⟩)
        rw [← e]; exact q2 j hj
      · obtain ⟨j, hj, e⟩ := (hmem (co c (growN ok v c))).mpr (Or.inl rfl)
        have := q2 j hj
        rw [e, co_co g2] at this; exact this
  refine ⟨h1, insN_srt h2 ha p1 p2, h3, fun i hi => ?_, hwt, fun t ht ht2 => ?_⟩
  · refine ⟨?_, ?_, insN_arr ha (fun i hi => (h4 i hi).2.2) i hi⟩
    · rcases (hmem _).mp ⟨i, hi, rfl⟩ with e | ⟨j, hj, e⟩
      · rw [e]; exact hcl
      · rw [← e]; exact (h4 j hj).1
    · rcases (hmem _).mp ⟨i, hi, rfl⟩ with e | ⟨j, hj, e⟩
      · rw [e]; exact g3
      · rw [← e]; exact (h4 j hj).2.1
  · rw [hw' t (by omega)]
    rcases Nat.eq_or_lt_of_le ht with e | e
    · subst e; rw [decide_eq_true (sbs_and.mpr g1), Bool.not_true, Bool.and_false]
    · rw [h6 t e ht2, Bool.false_and]
theorem around {c k t : Nat} (hk : k < 2 ^ c) (ht : t < 2 ^ c) : t = k ||| (t &&& sdf (2 ^ c - 1) k) ↔ sbs k t := by
  constructor
  · intro h i hi
    rw [h, Nat.testBit_or, hi, Bool.true_or]
  · intro h
    apply Nat.eq_of_testBit_eq
    intro i
    rw [Nat.testBit_or, Nat.testBit_and, sdf_bit, all_bit]
    cases e : k.testBit i
    · cases e2 : t.testBit i
      · rfl
      · rw [decide_eq_true (bit_lt ht e2)]; rfl
    · rw [h i e]; rfl
theorem SInv_ker {ok : Nat → Bool} {c : Nat} {kl fl wt wt' : Nat → Int32} {g h : Nat → Nat} {y z v a : Nat} (hc : c ≤ 9) (hm : mono ok) (hI : SInv ok c kl fl wt g h y z (v + 1)) (hv : v < 2 ^ c) (hw : wtB wt v = true) (hok : ok v = false) (ha : a ≤ y) (a1 : ∀ i, a ≤ i → i < y → nI (shrN ok v c) < kl i) (a2 : a = 0 ∨ kl (a - 1) ≤ nI (shrN ok v c)) (hw' : ∀ t, t < 512 → wtB wt' t = (wtB wt t && !decide (t = shrN ok v c ||| (t &&& sdf (2 ^ c - 1) (shrN ok v c))))) : SInv ok c (upd (movF kl a y) a (nI (shrN ok v c))) fl wt' (insN g a (shrN ok v c)) h (y + 1) z v := by
  obtain ⟨hn, hy, hcl⟩ := S_ker hc hm hI hv hw hok
  obtain ⟨h1, h2, h3, h4, h5, h6⟩ := hI
  have hp := pow9 hc
  obtain ⟨g1, g3⟩ := shr_ker (c := c) hm hok
  obtain ⟨p1, p2⟩ := ins_pos h1 (fun i hi => (h3 i hi).2.2) (fun i hi => by have := (h3 i hi).1; omega) (by omega) hn ha a1 a2
  have hmem := fun x => insN_mem (g := g) (s := shrN ok v c) (x := x) ha
  have hwt : ∀ t, t < 2 ^ c → (wtB wt' t = true ↔ (∀ i, i < y + 1 → ¬ sbs (insN g a (shrN ok v c) i) t) ∧ ∀ i, i < z → ¬ sbs t (co c (h i))) := by
    intro t ht
    rw [hw' t (by omega), Bool.and_eq_true, h5 t ht, Bool.not_eq_true', decide_eq_false_iff_not, around hcl ht]
    constructor
    · rintro ⟨⟨q1, q2⟩, q3⟩
      refine ⟨fun i hi => ?_, q2⟩
      rcases (hmem _).mp ⟨i, hi, rfl⟩ with e | ⟨j, hj, e⟩
      · rw [e]; exact q3
      · rw [← e]; exact q1 j hj
    · rintro ⟨q1, q2⟩
      refine ⟨⟨fun i hi => ?_, q2⟩, ?_⟩
      · obtain ⟨j, hj, e⟩ := (hmem (g i)).mpr (Or.inr ⟨i, hi, rfl⟩)
        rw [← e]; exact q1 j hj
      · obtain ⟨j, hj, e⟩ := (hmem (shrN ok v c)).mpr (Or.inl rfl)
        have := q1 j hj
        rw [e] at this; exact this
  refine ⟨insN_srt h1 ha p1 p2, h2, fun i hi => ?_, h4, hwt, fun t ht ht2 => ?_⟩
  · refine ⟨?_, ?_, insN_arr ha (fun i hi => (h3 i hi).2.2) i hi⟩
    · rcases (hmem _).mp ⟨i, hi, rfl⟩ with e | ⟨j, hj, e⟩
      · rw [e]; exact hcl
      · rw [← e]; exact (h3 j hj).1
    · rcases (hmem _).mp ⟨i, hi, rfl⟩ with e | ⟨j, hj, e⟩
      · rw [e]; exact g3
      · rw [← e]; exact (h3 j hj).2.1
  · rw [hw' t (by omega)]
    rcases Nat.eq_or_lt_of_le ht with e | e
    · subst e; rw [decide_eq_true ((around hcl hv).mpr g1), Bool.not_true, Bool.and_false]
    · rw [h6 t e ht2, Bool.false_and]
theorem lst_map {f : Nat → Int32} {g : Nat → Nat} {z : Nat} (h : ∀ i, i < z → f i = nI (g i)) : Lst f ((List.range z).map g) := by
  intro i hi
  rw [List.length_map, List.length_range] at hi
  rw [h i hi, List.getD_eq_getElem?_getD, List.getElem?_map, List.getElem?_range hi]
  rfl
theorem SInv_done {w : Nat → Int32} {c : Nat} {kl fl wt : Nat → Int32} {g h : Nat → Nat} {y z : Nat} (hc : c ≤ 9) (hI : SInv (okB w c) c kl fl wt g h y z 0) : XSol w c kl fl y z := by
  have hm := okB_mono (w := w) hc
  obtain ⟨h1, h2, h3, h4, h5, h6⟩ := hI
  have off : ∀ t, t < 2 ^ c → ¬ ((∀ i, i < y → ¬ sbs (g i) t) ∧ ∀ i, i < z → ¬ sbs t (co c (h i))) := fun t ht q => by
    have := (h5 t ht).mpr q
    rw [h6 t (Nat.zero_le t) ht] at this
    cases this
  have eK : KL (okB w c) c = (List.range y).map g := filt_eq h1 (fun x => ⟨by
    rintro ⟨i, hi, rfl⟩
    exact ⟨(h3 i hi).1, (h3 i hi).2.1⟩, by
    rintro ⟨hx, hK⟩
    apply Classical.byContradiction
    intro hn
    apply off x hx
    refine ⟨fun i hi hs => hn ⟨i, hi, ker_anti hm hx (h3 i hi).2.1 hK hs⟩, fun i hi hs => ?_⟩
    have := hm _ x hs (isC_iff.mp (h4 i hi).2.1).1
    rw [(isK_iff.mp hK).1] at this
    cases this⟩)
  have eF : FL (okB w c) c = (List.range z).map h := filt_eq h2 (fun x => ⟨by
    rintro ⟨i, hi, rfl⟩
    exact ⟨(h4 i hi).1, (h4 i hi).2.1⟩, by
    rintro ⟨hx, hC⟩
    apply Classical.byContradiction
    intro hn
    apply off (co c x) (co_lt c x)
    refine ⟨fun i hi hs => ?_, fun i hi hs => hn ⟨i, hi, ?_⟩⟩
    · have := hm _ (g i) hs (isC_iff.mp hC).1
      rw [(isK_iff.mp (h3 i hi).2.1).1] at this
      cases this
    · have e := cor_big hm (co_lt c (h i)) hC hs (isC_iff.mp (h4 i hi).2.1).1
      rw [← co_co hx, ← co_co (h4 i hi).1, e]⟩)
  refine ⟨by rw [eK, List.length_map, List.length_range], by rw [eF, List.length_map, List.length_range], ?_, ?_⟩
  · rw [eK]; exact lst_map (fun i hi => (h3 i hi).2.2)
  · rw [eF]; exact lst_map (fun i hi => (h4 i hi).2.2)
end
section
/-! rows for the methods that write, and the lists' words -/
set_option maxRecDepth 100000
theorem bool_eq {b b' : Bool} {P Q : Prop} [Decidable P] [Decidable Q] (h : b = b') (hPQ : P ↔ Q) : (b && !decide P) = (b' && !decide Q) := by
  subst h
  by_cases hp : P
  · rw [decide_eq_true hp, decide_eq_true (hPQ.mp hp)]
  · rw [decide_eq_false hp, decide_eq_false (fun z => hp (hPQ.mpr z))]
theorem two_off {b : Bool} {P Q : Prop} [Decidable P] [Decidable Q] : ((b && !decide P) && !decide Q) = (b && !decide (P ∨ Q)) := by
  by_cases hp : P
  · simp [hp]
  · by_cases hq : Q
    · simp [hp, hq]
    · simp [hp, hq]
theorem step_part {a p t : Nat} (ha : a < 512) (hp : p < 512) (ht : t < 512) (hpa : p &&& a = p) (hp0 : 0 < p) (hta : t &&& a = t) : p ≤ t ↔ (p - 1) &&& a < t := by
  constructor
  · intro h
    have := @Nat.and_le_left (p - 1) a
    omega
  · intro h
    rcases Nat.lt_or_ge t p with q | q
    · have := prev_part 9 a p t ha hp ht hpa hta q
      omega
    · exact q
theorem tkP_0 {f wt : Nat → Int32} {a p : Nat} (hp : p = 0) (hf : ∀ t, t < 512 → wtB f t = (wtB wt t && !decide (t &&& a = t ∧ p < t))) : ∀ t, t < 512 → wtB (tkO f p) t = (wtB wt t && !decide (t &&& a = t)) := by
  intro t ht
  subst hp
  rw [wtB_tk, hf t ht, two_off]
  refine bool_eq rfl ⟨?_, ?_⟩
  · rintro (h | h)
    · exact h.1
    · subst h; exact Nat.zero_and a
  · intro h
    rcases Nat.eq_zero_or_pos t with e | e
    · exact Or.inr e
    · exact Or.inl ⟨h, e⟩
theorem tkP_s {f wt : Nat → Int32} {a p : Nat} (ha : a < 512) (hp5 : p < 512) (hp : 0 < p) (hpa : p &&& a = p) (hf : ∀ t, t < 512 → wtB f t = (wtB wt t && !decide (t &&& a = t ∧ p < t))) : ∀ t, t < 512 → wtB (tkO f p) t = (wtB wt t && !decide (t &&& a = t ∧ (p - 1) &&& a < t)) := by
  intro t ht
  rw [wtB_tk, hf t ht, two_off]
  refine bool_eq rfl ⟨?_, ?_⟩
  · rintro (h | h)
    · exact ⟨h.1, (step_part ha hp5 ht hpa hp h.1).mp (by omega)⟩
    · subst h; exact ⟨hpa, (step_part ha hp5 ht hpa hp hpa).mp (Nat.le_refl _)⟩
  · intro h
    have := (step_part ha hp5 ht hpa hp h.1).mpr h.2
    rcases Nat.eq_or_lt_of_le this with e | e
    · exact Or.inr e.symm
    · exact Or.inl ⟨h.1, e⟩
theorem ar_iff {b r p t : Nat} (hbr : b &&& r = 0) (hpr : p &&& r = p) : t = b ||| p ↔ t = b ||| (t &&& r) ∧ t &&& r = p := by
  constructor
  · intro h
    have e : t &&& r = p := by rw [h, Nat.and_or_distrib_right, hbr, hpr, Nat.zero_or]
    exact ⟨by rw [e]; exact h, e⟩
  · rintro ⟨h1, h2⟩
    rw [h2] at h1; exact h1
theorem tkA_0 {f wt : Nat → Int32} {b r p : Nat} (hbr : b &&& r = 0) (hp : p = 0) (hf : ∀ t, t < 512 → wtB f t = (wtB wt t && !decide (t = b ||| (t &&& r) ∧ p < t &&& r))) : ∀ t, t < 512 → wtB (tkO f (b ||| p)) t = (wtB wt t && !decide (t = b ||| (t &&& r))) := by
  intro t ht
  subst hp
  rw [wtB_tk, hf t ht, two_off]
  refine bool_eq rfl ⟨?_, ?_⟩
  · rintro (h | h)
    · exact h.1
    · exact ((ar_iff hbr (Nat.zero_and r)).mp h).1
  · intro h
    rcases Nat.eq_zero_or_pos (t &&& r) with e | e
    · exact Or.inr ((ar_iff hbr (Nat.zero_and r)).mpr ⟨h, e⟩)
    · exact Or.inl ⟨h, e⟩
theorem tkA_s {f wt : Nat → Int32} {b r p : Nat} (hbr : b &&& r = 0) (hr : r < 512) (hp5 : p < 512) (hp : 0 < p) (hpr : p &&& r = p) (hf : ∀ t, t < 512 → wtB f t = (wtB wt t && !decide (t = b ||| (t &&& r) ∧ p < t &&& r))) : ∀ t, t < 512 → wtB (tkO f (b ||| p)) t = (wtB wt t && !decide (t = b ||| (t &&& r) ∧ (p - 1) &&& r < t &&& r)) := by
  intro t ht
  have h5 : t &&& r < 512 := Nat.lt_of_le_of_lt Nat.and_le_left ht
  have hs : (t &&& r) &&& r = t &&& r := by rw [Nat.and_assoc, Nat.and_self]
  rw [wtB_tk, hf t ht, two_off]
  refine bool_eq rfl ⟨?_, ?_⟩
  · rintro (h | h)
    · exact ⟨h.1, (step_part hr hp5 h5 hpr hp hs).mp (by omega)⟩
    · obtain ⟨h1, h2⟩ := (ar_iff hbr hpr).mp h
      exact ⟨h1, (step_part hr hp5 h5 hpr hp hs).mp (by omega)⟩
  · intro h
    have := (step_part hr hp5 h5 hpr hp hs).mpr h.2
    rcases Nat.eq_or_lt_of_le this with e | e
    · exact Or.inr ((ar_iff hbr hpr).mpr ⟨h.1, e.symm⟩)
    · exact Or.inl ⟨h.1, e⟩
theorem sdf_dis (a b : Nat) : b &&& sdf a b = 0 := by
  apply Nat.eq_of_testBit_eq
  intro i
  rw [Nat.testBit_and, sdf_bit, Nat.zero_testBit]
  cases b.testBit i <;> simp
/-- the places from j up to m take their right neighbours -/
def shf (f : Nat → Int32) (j m : Nat) : Nat → Int32 := fun i => if j ≤ i ∧ i < m then f (i + 1) else f i
theorem shf_0 (f : Nat → Int32) (j : Nat) : shf f j j = f := funext fun i => if_neg (by omega)
theorem shf_at (f : Nat → Int32) (j m : Nat) {i : Nat} (h : m ≤ i) : shf f j m i = f i := if_neg (by omega)
theorem shf_s (f : Nat → Int32) {j m : Nat} (h : j ≤ m) : upd (shf f j m) m (shf f j m (m + 1)) = shf f j (m + 1) := by
  funext i
  rw [shf_at f j m (by omega : m ≤ m + 1)]
  unfold upd shf
  by_cases e : i = m
  · subst e; rw [if_pos rfl, if_pos (by omega)]
  · rw [if_neg e]
    by_cases q : j ≤ i ∧ i < m
    · rw [if_pos q, if_pos (by omega)]
    · rw [if_neg q, if_neg (by omega)]
def orF (f : Nat → Int32) : Nat → Int32
  | 0 => 0
  | k + 1 => orF f k ||| f k
theorem nI_m1 {c : Nat} (h : 0 < c) : nI c - 1 = nI (c - 1) := pk_sub (b := 1) h
theorem dec1 {c : Nat} (h : 0 < c) : nI c + Int32.ofInt (-1) = nI (c - 1) := sb_m1 h
theorem i_add_m1 (x : Int32) : x + (-1) = x - 1 := by rw [Int32.sub_eq_add_neg]
theorem v_neg {v : Nat} (hv : v ≤ 512) (h : nI v - 1 < 0) : v = 0 := by
  rcases Nat.eq_zero_or_pos v with e | e
  · exact e
  · rw [nI_m1 e] at h
    exact absurd h (nI_pos (by omega))
theorem v_pos {v : Nat} (h : ¬ nI v - 1 < 0) : 0 < v := by
  rcases Nat.eq_zero_or_pos v with e | e
  · subst e; exact absurd (by decide) h
  · exact e
theorem filt_le {P : Nat → Bool} {c : Nat} (hc : c ≤ 9) (ha : ∀ a b, a < 2 ^ c → b < 2 ^ c → P a = true → P b = true → sbs a b → a = b) : ((List.range (2 ^ c)).filter P).length ≤ 126 := by
  have hp := pow9 hc
  have hm : ∀ i, i < ((List.range (2 ^ c)).filter P).length → ((List.range (2 ^ c)).filter P).getD i 0 ∈ (List.range (2 ^ c)).filter P := fun i hi => by
    rw [List.getD_eq_getElem?_getD, List.getElem?_eq_getElem hi]; exact List.getElem_mem hi
  have h2 : ∀ i, i < ((List.range (2 ^ c)).filter P).length → ((List.range (2 ^ c)).filter P).getD i 0 < 2 ^ c ∧ P (((List.range (2 ^ c)).filter P).getD i 0) = true := fun i hi => by
    have := List.mem_filter.mp (hm i hi)
    exact ⟨List.mem_range.mp this.1, this.2⟩
  refine sperner (g := fun i => ((List.range (2 ^ c)).filter P).getD i 0) ?_ (fun i hi => by have := (h2 i hi).1; omega) (fun i j hi hj => ha _ _ (h2 i hi).1 (h2 j hj).1 (h2 i hi).2 (h2 j hj).2)
  intro i j hij hj
  have hpw : ((List.range (2 ^ c)).filter P).Pairwise (· < ·) := List.Pairwise.filter _ List.pairwise_lt_range
  have := List.pairwise_iff_getElem.mp hpw i j (by omega) hj hij
  simp only [List.getD_eq_getElem?_getD, List.getElem?_eq_getElem hj, List.getElem?_eq_getElem (show i < ((List.range (2 ^ c)).filter P).length by omega)]
  exact this
theorem KL_le {w : Nat → Int32} {c : Nat} (hc : c ≤ 9) : (KL (okB w c) c).length ≤ 126 := filt_le hc (fun a b _ hb hA hB => ker_anti (okB_mono hc) hb hA hB)
theorem FL_le {w : Nat → Int32} {c : Nat} (hc : c ≤ 9) : (FL (okB w c) c).length ≤ 126 := filt_le hc (fun a b ha hb hA hB => cor_anti (okB_mono hc) ha hb hA hB)
theorem FL_pos {w : Nat → Int32} {c : Nat} (hc : c ≤ 9) : 0 < (FL (okB w c) c).length := by
  obtain ⟨_, _, h⟩ := grow_cor (c := c) (okB_mono (w := w) hc) (Nat.two_pow_pos c) (okB_0 hc)
  exact List.length_pos_of_mem (List.mem_filter.mpr ⟨List.mem_range.mpr (co_lt c _), h⟩)
theorem getD_mem {L : List Nat} {i : Nat} (hi : i < L.length) : L.getD i 0 ∈ L := by
  rw [List.getD_eq_getElem?_getD, List.getElem?_eq_getElem hi]; exact List.getElem_mem hi
theorem mem_getD {L : List Nat} {x : Nat} (h : x ∈ L) : ∃ i, i < L.length ∧ L.getD i 0 = x := by
  obtain ⟨i, hi, e⟩ := List.getElem_of_mem h
  exact ⟨i, hi, by rw [List.getD_eq_getElem?_getD, List.getElem?_eq_getElem hi]; exact e⟩
/-- the p-th of a list, -1 if there is none -/
def lsI (L : List Nat) (p : Int32) : Int32 := if p < 0 then -1 else if nI L.length ≤ p then -1 else nI (L.getD p.toNatClampNeg 0)
theorem fold_take {β : Type} (L : List Nat) (st : β → Nat → β) (b : β) {k : Nat} (h : k < L.length) : (L.take (k + 1)).foldl st b = st ((L.take k).foldl st b) (L.getD k 0) := by
  rw [List.take_succ, List.getElem?_eq_getElem h, List.foldl_append, List.getD_eq_getElem?_getD, List.getElem?_eq_getElem h]
  rfl
theorem fold_filt {β : Type} (P : Nat → Bool) (st : β → Nat → β) (b : β) (k : Nat) : ((List.range (k + 1)).filter P).foldl st b = if P k then st (((List.range k).filter P).foldl st b) k else ((List.range k).filter P).foldl st b := by
  rw [List.range_succ, List.filter_append, List.foldl_append]
  cases h : P k
  · rw [List.filter_cons_of_neg (by rw [h]; decide)]; rfl
  · rw [List.filter_cons_of_pos h]; rfl
def stW (f : Int32 → Int32) (x : Int32) (t : Nat) : Int32 := if x < 0 ∨ f (nI t) < f x then nI t else x
def stS (x : Int32) (t : Nat) : Int32 := if x = 0 ∨ onesF (nI t) 9 < x then onesF (nI t) 9 else x
def stB (p x : Int32) (t : Nat) : Int32 := x + ((nI t >>> (p &&& 31)) &&& 1)
def stA (x : Int32) (t : Nat) : Int32 := x &&& nI t
end
section
/-! the methods of ConflictSets that write, but solve: rows printed by gen/m_b.py -/
set_option maxRecDepth 100000

set_option maxHeartbeats 4000000 in
theorem mX0_clear (l : Launch) (D : va_G) (q : Nat → Nat) (d : Nat → ClassId) (w : Nat → Int32) (pr : Nat → Int32) (dr : Nat → Int32) (kl : Nat → Int32) (fl : Nat → Int32) (wt : Nat → Int32) (c : Nat) (ds : Int32) (kc : Int32) (fc : Int32) (sv : Int32) (hq : gJ 7 q) : Met l yX0_clear (ws_ yX0_clear cX0_clear 2 (some .int)) ({ frames := 0, cells := 0, slots := 0, locals := 0 } : Room) (gPc D (xw q d w pr dr kl fl wt (nI c) ds kc fc sv) (xt d) [.ref (q 0)]) (gQi D (xwS q d) (fun (r : Int32) (u : XS) => r = ds ∧ u = (w, pr, dr, kl, fl, wt, nI c, 0, kc, fc, sv)) (gA 7 q)) 0 0 (gA 7 q) := by
  refine g_met (by decide) (Nat.le_of_ble_eq_true rfl) ?_
  intro p e s m below meth cd hx hb hr hml hown hts hlocks hname hP hK ls hl
  have hown : s.vm.findClass RX0 = some m.cls := hown
  have hl : lv_has ls 2 [(0, .ref (q 0))] := hl
  have hS : va_S (gA 7 q) s.heap s.heap [] := va_S.rf
  refine lv_aload_n hx hb dX0_clear_0 rfl (lv_at hl 0 rfl) ?_
  refine va_get (D := D) (ci := 0) (v := .int ds) (C := RX0) (T := TX0) (N := 11) hx hb hts in_X0 hown hK hP 0 rfl rfl 7 (by decide) (hts _ q43) (fun _ h9 => h9) rfl dX0_clear_1 ?_
  refine lv_istore_n (lv' := [(1, .int ds), (0, .ref (q 0))]) hx hb dX0_clear_4 rfl hl (by decide) rfl (fun ls hl => ?_)
  refine lv_aload_n hx hb dX0_clear_5 rfl (lv_at hl 1 rfl) ?_
  refine lv_iconst (v := 0) hx hb dX0_clear_6 (by decide) ?_
  refine va_put (D := D) (ci := 0) (v := .int 0) (ty := .int) (C := RX0) (T := TX0) (N := 11) hx hb hts in_X0 tyX0 tyX0_ok nmX0 hown hK hP (x_D hq) hS 0 rfl rfl 7 (by decide) (hts _ q43) (fun _ h9 => h9) rfl (by decide +kernel) rfl rfl (Nat.le_of_ble_eq_true rfl) dX0_clear_7 (fun H locs hP hD hS => ?_)
  have hP : va_P D vwCl (xw q d w pr dr kl fl wt (nI c) 0 kc fc sv) H := hP
  refine lv_iload_n hx hb dX0_clear_10 rfl (lv_at hl 0 rfl) ?_
  exact g_reti (w, pr, dr, kl, fl, wt, nI c, 0, kc, fc, sv) hx hb hr hlocks hP hS (⟨rfl, rfl⟩) dX0_clear_11

set_option maxHeartbeats 4000000 in
theorem mX0_literal (l : Launch) (D : va_G) (q : Nat → Nat) (d : Nat → ClassId) (w : Nat → Int32) (pr : Nat → Int32) (dr : Nat → Int32) (kl : Nat → Int32) (fl : Nat → Int32) (wt : Nat → Int32) (c : Nat) (nd : Nat) (kc : Int32) (fc : Int32) (sv : Int32) (p0 : Int32) (hq : gJ 7 q) (hnd : nd ≤ 4) : Met l yX0_literal (ws_ yX0_literal cX0_literal 3 (some .int)) ({ frames := 0, cells := 0, slots := 0, locals := 0 } : Room) (gPc D (xw q d w pr dr kl fl wt (nI c) (nI nd) kc fc sv) (xt d) [.ref (q 0), .int p0]) (gQi D (xwS q d) (fun (r : Int32) (u : XS) => (p0 < 0 ∨ ¬ p0 ≤ 9) ∧ r = -1 ∧ u = (w, pr, dr, kl, fl, wt, nI c, nI nd, kc, fc, sv) ∨ (¬ p0 < 0 ∧ p0 ≤ 9) ∧ ((∃ k, k < nd ∧ dr k = p0) ∧ r = nI nd ∧ u = (w, pr, dr, kl, fl, wt, nI c, nI nd, kc, fc, sv) ∨ (∀ k, k < nd → ¬ dr k = p0) ∧ (nd = 4 ∧ r = -2 ∧ u = (w, pr, dr, kl, fl, wt, nI c, nI nd, kc, fc, sv) ∨ nd < 4 ∧ r = nI (nd + 1) ∧ u = (w, pr, upd dr nd p0, kl, fl, wt, nI c, nI (nd + 1), kc, fc, sv)))) (gA 7 q)) 0 0 (gA 7 q) := by
  refine g_met (by decide) (Nat.le_of_ble_eq_true rfl) ?_
  intro p e s m below meth cd hx hb hr hml hown hts hlocks hname hP hK ls hl
  have hown : s.vm.findClass RX0 = some m.cls := hown
  have hl : lv_has ls 3 [(0, .ref (q 0)), (1, .int p0)] := hl
  have hS : va_S (gA 7 q) s.heap s.heap [] := va_S.rf
  refine lv_iload_n hx hb dX0_literal_0 rfl (lv_at hl 1 rfl) ?_
  refine lv_if_lt (tgt := 10) hx hb dX0_literal_1 (by decide) (fun c_1 => ?_) (fun c_1 => ?_)
  · refine lv_iconst (v := (-1)) hx hb dX0_literal_10 (by decide) ?_
    exact g_reti (w, pr, dr, kl, fl, wt, nI c, nI nd, kc, fc, sv) hx hb hr hlocks hP hS (Or.inl ⟨Or.inl c_1, rfl, rfl⟩) dX0_literal_11
  · refine lv_iload_n hx hb dX0_literal_4 rfl (lv_at hl 1 rfl) ?_
    refine lv_bipush (v := 9) hx hb dX0_literal_5 (by decide) ?_
    refine lv_icmp_le (tgt := 12) hx hb dX0_literal_7 (by decide) (fun c_7 => ?_) (fun c_7 => ?_)
    · refine lv_iconst (v := 0) hx hb dX0_literal_12 (by decide) ?_
      refine lv_istore_n (lv' := [(2, .int 0), (0, .ref (q 0)), (1, .int p0)]) hx hb dX0_literal_13 rfl hl (by decide) rfl (fun ls hl => ?_)
      refine g_loopH (pc := 14) (P := fun n H locs ls => ∃ (k : Nat), (k + n = nd) ∧ (∀ i, i < k → ¬ dr i = p0) ∧ va_P D vwCl (xw q d w pr dr kl fl wt (nI c) (nI nd) kc fc sv) H ∧ va_S (gA 7 q) s.heap H locs ∧ lv_has ls 3 [(0, .ref (q 0)), (1, .int p0), (2, .int (nI k))]) ?_ (nd) _ _ _ ⟨0, Nat.zero_add _, fun i h => absurd h (Nat.not_lt_zero i), hP, hS, lv_sub hl [1, 2, 0] rfl⟩
      intro n H locs ls hh ih
      obtain ⟨k, hk, hno, hP, hS, hl⟩ := hh
      refine lv_iload_n hx hb dX0_literal_14 rfl (lv_at hl 2 rfl) ?_
      refine lv_aload_n hx hb dX0_literal_15 rfl (lv_at hl 0 rfl) ?_
      refine va_get (D := D) (ci := 0) (v := .int (nI nd)) (C := RX0) (T := TX0) (N := 11) hx hb hts in_X0 hown hK hP 0 rfl rfl 7 (by decide) (hts _ q43) (fun _ h9 => h9) rfl dX0_literal_16 ?_
      refine lv_icmp_ge (tgt := 43) hx hb dX0_literal_19 (by decide) (fun c_19 => ?_) (fun c_19 => ?_)
      · have hkc : k = nd := c_eq (by omega) (by omega) c_19
        have hno : ∀ i, i < nd → ¬ dr i = p0 := fun i hi => hno i (by omega)
        refine lv_aload_n hx hb dX0_literal_43 rfl (lv_at hl 0 rfl) ?_
        refine va_get (D := D) (ci := 0) (v := .int (nI nd)) (C := RX0) (T := TX0) (N := 11) hx hb hts in_X0 hown hK hP 0 rfl rfl 7 (by decide) (hts _ q43) (fun _ h9 => h9) rfl dX0_literal_44 ?_
        refine lv_iconst (v := 4) hx hb dX0_literal_47 (by decide) ?_
        refine lv_icmp_ne (tgt := 54) hx hb dX0_literal_48 (by decide) (fun c_48 => ?_) (fun c_48 => ?_)
        · have hn4 : nd < 4 := by rcases Nat.lt_or_ge nd 4 with z | z; exact z; exact absurd (by rw [show nd = 4 by omega]; rfl) c_48
          refine lv_aload_n hx hb dX0_literal_54 rfl (lv_at hl 0 rfl) ?_
          refine va_get (D := D) (ci := 0) (v := .ref (q 3)) (C := RX0) (T := TX0) (N := 11) hx hb hts in_X0 hown hK hP 0 rfl rfl 2 (by decide) (hts _ q38) (fun _ h9 => h9) rfl dX0_literal_55 ?_
          refine lv_aload_n hx hb dX0_literal_58 rfl (lv_at hl 0 rfl) ?_
          refine va_get (D := D) (ci := 0) (v := .int (nI nd)) (C := RX0) (T := TX0) (N := 11) hx hb hts in_X0 hown hK hP 0 rfl rfl 7 (by decide) (hts _ q43) (fun _ h9 => h9) rfl dX0_literal_59 ?_
          refine lv_iload_n hx hb dX0_literal_62 rfl (lv_at hl 1 rfl) ?_
          refine g_iast hx hb hK hP (x_D hq) hS 3 2 rfl rfl (k := nd) (hn4) (by decide) dX0_literal_63 (fun H locs hP hS => ?_)
          have hP : va_P D vwCl (xw q d w pr (upd dr nd p0) kl fl wt (nI c) (nI nd) kc fc sv) H := hP
          refine lv_aload_n hx hb dX0_literal_64 rfl (lv_at hl 0 rfl) ?_
          refine lv_dup hx hb dX0_literal_65 rfl ?_
          refine va_get (D := D) (ci := 0) (v := .int (nI nd)) (C := RX0) (T := TX0) (N := 11) hx hb hts in_X0 hown hK hP 0 rfl rfl 7 (by decide) (hts _ q43) (fun _ h9 => h9) rfl dX0_literal_66 ?_
          refine lv_iconst (v := 1) hx hb dX0_literal_69 (by decide) ?_
          refine lv_iadd hx hb dX0_literal_70 ?_
          refine g_tw (y := nI (nd + 1)) (nI_1 nd) ?_
          refine va_put (D := D) (ci := 0) (v := .int (nI (nd + 1))) (ty := .int) (C := RX0) (T := TX0) (N := 11) hx hb hts in_X0 tyX0 tyX0_ok nmX0 hown hK hP (x_D hq) hS 0 rfl rfl 7 (by decide) (hts _ q43) (fun _ h9 => h9) rfl (by decide +kernel) rfl rfl (Nat.le_of_ble_eq_true rfl) dX0_literal_71 (fun H locs hP hD hS => ?_)
          have hP : va_P D vwCl (xw q d w pr (upd dr nd p0) kl fl wt (nI c) (nI (nd + 1)) kc fc sv) H := hP
          refine lv_aload_n hx hb dX0_literal_74 rfl (lv_at hl 0 rfl) ?_
          refine va_get (D := D) (ci := 0) (v := .int (nI (nd + 1))) (C := RX0) (T := TX0) (N := 11) hx hb hts in_X0 hown hK hP 0 rfl rfl 7 (by decide) (hts _ q43) (fun _ h9 => h9) rfl dX0_literal_75 ?_
          exact g_reti (w, pr, upd dr nd p0, kl, fl, wt, nI c, nI (nd + 1), kc, fc, sv) hx hb hr hlocks hP hS (Or.inr ⟨⟨c_1, c_7⟩, Or.inr ⟨hno, Or.inr ⟨hn4, rfl, rfl⟩⟩⟩) dX0_literal_78
        · have hn4 : nd = 4 := (nI_eq (b := 4) (by omega) (by decide)).mp c_48
          refine lv_bipush (v := (-2)) hx hb dX0_literal_51 (by decide) ?_
          exact g_reti (w, pr, dr, kl, fl, wt, nI c, nI nd, kc, fc, sv) hx hb hr hlocks hP hS (Or.inr ⟨⟨c_1, c_7⟩, Or.inr ⟨hno, Or.inl ⟨hn4, rfl, rfl⟩⟩⟩) dX0_literal_53
      · have hlt : k < nd := c_lt (by omega) (by omega) c_19
        refine lv_aload_n hx hb dX0_literal_22 rfl (lv_at hl 0 rfl) ?_
        refine va_get (D := D) (ci := 0) (v := .ref (q 3)) (C := RX0) (T := TX0) (N := 11) hx hb hts in_X0 hown hK hP 0 rfl rfl 2 (by decide) (hts _ q38) (fun _ h9 => h9) rfl dX0_literal_23 ?_
        refine lv_iload_n hx hb dX0_literal_26 rfl (lv_at hl 2 rfl) ?_
        refine g_iald hx hb hK hP 3 2 rfl rfl (k := k) (by omega) (by decide) dX0_literal_27 ?_
        refine lv_iload_n hx hb dX0_literal_28 rfl (lv_at hl 1 rfl) ?_
        refine lv_icmp_ne (tgt := 37) hx hb dX0_literal_29 (by decide) (fun c_29 => ?_) (fun c_29 => ?_)
        · refine lv_iinc (v := nI (k + 1)) (lv' := [(2, .int (nI (k + 1))), (0, .ref (q 0)), (1, .int p0)]) hx hb dX0_literal_37 hl (k := 2) rfl (inc1 _) (by decide) rfl (fun ls hl => ?_)
          refine lv_goto (tgt := 14) hx hb dX0_literal_40 (by decide) ?_
          exact ih (n - 1) _ _ _ (by omega) ⟨(k + 1), by omega, fun i hi => by rcases Nat.eq_or_lt_of_le (Nat.le_of_lt_succ hi) with z | z; (subst z; exact c_29); exact hno i z, hP, hS, lv_sub hl [1, 2, 0] rfl⟩
        · refine lv_aload_n hx hb dX0_literal_32 rfl (lv_at hl 0 rfl) ?_
          refine va_get (D := D) (ci := 0) (v := .int (nI nd)) (C := RX0) (T := TX0) (N := 11) hx hb hts in_X0 hown hK hP 0 rfl rfl 7 (by decide) (hts _ q43) (fun _ h9 => h9) rfl dX0_literal_33 ?_
          exact g_reti (w, pr, dr, kl, fl, wt, nI c, nI nd, kc, fc, sv) hx hb hr hlocks hP hS (Or.inr ⟨⟨c_1, c_7⟩, Or.inl ⟨⟨k, hlt, c_29⟩, rfl, rfl⟩⟩) dX0_literal_36
    · refine lv_iconst (v := (-1)) hx hb dX0_literal_10 (by decide) ?_
      exact g_reti (w, pr, dr, kl, fl, wt, nI c, nI nd, kc, fc, sv) hx hb hr hlocks hP hS (Or.inl ⟨Or.inr c_7, rfl, rfl⟩) dX0_literal_11

set_option maxHeartbeats 4000000 in
theorem mX0_add (l : Launch) (D : va_G) (q : Nat → Nat) (d : Nat → ClassId) (w : Nat → Int32) (pr : Nat → Int32) (dr : Nat → Int32) (kl : Nat → Int32) (fl : Nat → Int32) (wt : Nat → Int32) (c : Nat) (nd : Nat) (kc : Int32) (fc : Int32) (sv : Int32) (hq : gJ 7 q) (hnd : nd ≤ 4) (hc9 : c ≤ 9) : Met l yX0_add (ws_ yX0_add cX0_add 3 (some .int)) ({ frames := 1, cells := 0, slots := 0, locals := 23 } : Room) (gPc D (xw q d w pr dr kl fl wt (nI c) (nI nd) kc fc sv) (xt d) [.ref (q 0)]) (gQi D (xwS q d) (fun (r : Int32) (u : XS) => nd = 0 ∧ r = -1 ∧ u = (w, pr, dr, kl, fl, wt, nI c, nI nd, kc, fc, sv) ∨ 0 < nd ∧ (c = 9 ∧ r = -2 ∧ u = (w, pr, dr, kl, fl, wt, nI c, nI nd, kc, fc, sv) ∨ c < 9 ∧ r = nI c ∧ u = (upd w c (orF (fun k => wrdF (dr k) 32) nd), upd pr c 1, dr, kl, fl, wt, nI (c + 1), 0, kc, fc, 0))) (gA 7 q)) 0 0 (gA 7 q) := by
  refine g_met (by decide) (Nat.le_of_ble_eq_true rfl) ?_
  intro p e s m below meth cd hx hb hr hml hown hts hlocks hname hP hK ls hl
  have hown : s.vm.findClass RX0 = some m.cls := hown
  have hl : lv_has ls 3 [(0, .ref (q 0))] := hl
  have hS : va_S (gA 7 q) s.heap s.heap [] := va_S.rf
  refine lv_aload_n hx hb dX0_add_0 rfl (lv_at hl 0 rfl) ?_
  refine va_get (D := D) (ci := 0) (v := .int (nI nd)) (C := RX0) (T := TX0) (N := 11) hx hb hts in_X0 hown hK hP 0 rfl rfl 7 (by decide) (hts _ q43) (fun _ h9 => h9) rfl dX0_add_1 ?_
  refine lv_if_ne (tgt := 9) hx hb dX0_add_4 (by decide) (fun c_4 => ?_) (fun c_4 => ?_)
  · have hn0 : 0 < nd := by rcases Nat.eq_zero_or_pos nd with z | z; exact absurd (by rw [z]; rfl) c_4; exact z
    refine lv_aload_n hx hb dX0_add_9 rfl (lv_at hl 0 rfl) ?_
    refine va_get (D := D) (ci := 0) (v := .int (nI c)) (C := RX0) (T := TX0) (N := 11) hx hb hts in_X0 hown hK hP 0 rfl rfl 6 (by decide) (hts _ q42) (fun _ h9 => h9) rfl dX0_add_10 ?_
    refine lv_bipush (v := 9) hx hb dX0_add_13 (by decide) ?_
    refine lv_icmp_ne (tgt := 21) hx hb dX0_add_15 (by decide) (fun c_15 => ?_) (fun c_15 => ?_)
    · have hclt : c < 9 := by rcases Nat.lt_or_ge c 9 with z | z; exact z; exact absurd (by rw [show c = 9 by omega]; rfl) c_15
      refine lv_iconst (v := 0) hx hb dX0_add_21 (by decide) ?_
      refine lv_istore_n (lv' := [(1, .int 0), (0, .ref (q 0))]) hx hb dX0_add_22 rfl hl (by decide) rfl (fun ls hl => ?_)
      refine lv_iconst (v := 0) hx hb dX0_add_23 (by decide) ?_
      refine lv_istore_n (lv' := [(2, .int 0), (1, .int 0), (0, .ref (q 0))]) hx hb dX0_add_24 rfl hl (by decide) rfl (fun ls hl => ?_)
      refine g_loopH (pc := 25) (P := fun n H locs ls => ∃ (k : Nat) (x : Int32), (k + n = nd) ∧ (x = orF (fun k => wrdF (dr k) 32) k) ∧ va_P D vwCl (xw q d w pr dr kl fl wt (nI c) (nI nd) kc fc sv) H ∧ va_S (gA 7 q) s.heap H locs ∧ lv_has ls 3 [(0, .ref (q 0)), (1, .int x), (2, .int (nI k))]) ?_ (nd) _ _ _ ⟨0, 0, Nat.zero_add _, rfl, hP, hS, lv_sub hl [2, 1, 0] rfl⟩
      intro n H locs ls hh ih
      obtain ⟨k, x, hk, ex, hP, hS, hl⟩ := hh
      refine lv_iload_n hx hb dX0_add_25 rfl (lv_at hl 2 rfl) ?_
      refine lv_aload_n hx hb dX0_add_26 rfl (lv_at hl 0 rfl) ?_
      refine va_get (D := D) (ci := 0) (v := .int (nI nd)) (C := RX0) (T := TX0) (N := 11) hx hb hts in_X0 hown hK hP 0 rfl rfl 7 (by decide) (hts _ q43) (fun _ h9 => h9) rfl dX0_add_27 ?_
      refine lv_icmp_ge (tgt := 51) hx hb dX0_add_30 (by decide) (fun c_30 => ?_) (fun c_30 => ?_)
      · have hkc : k = nd := c_eq (by omega) (by omega) c_30
        have ex : x = orF (fun k => wrdF (dr k) 32) nd := by rw [← hkc]; exact ex
        refine lv_aload_n hx hb dX0_add_51 rfl (lv_at hl 0 rfl) ?_
        refine va_get (D := D) (ci := 0) (v := .ref (q 1)) (C := RX0) (T := TX0) (N := 11) hx hb hts in_X0 hown hK hP 0 rfl rfl 0 (by decide) (hts _ q36) (fun _ h9 => h9) rfl dX0_add_52 ?_
        refine lv_aload_n hx hb dX0_add_55 rfl (lv_at hl 0 rfl) ?_
        refine va_get (D := D) (ci := 0) (v := .int (nI c)) (C := RX0) (T := TX0) (N := 11) hx hb hts in_X0 hown hK hP 0 rfl rfl 6 (by decide) (hts _ q42) (fun _ h9 => h9) rfl dX0_add_56 ?_
        refine lv_iload_n hx hb dX0_add_59 rfl (lv_at hl 1 rfl) ?_
        refine g_tw (y := orF (fun k => wrdF (dr k) 32) nd) (ex) ?_
        refine g_iast hx hb hK hP (x_D hq) hS 1 0 rfl rfl (k := c) (hclt) (by decide) dX0_add_60 (fun H locs hP hS => ?_)
        have hP : va_P D vwCl (xw q d (upd w c (orF (fun k => wrdF (dr k) 32) nd)) pr dr kl fl wt (nI c) (nI nd) kc fc sv) H := hP
        refine lv_aload_n hx hb dX0_add_61 rfl (lv_at hl 0 rfl) ?_
        refine va_get (D := D) (ci := 0) (v := .ref (q 2)) (C := RX0) (T := TX0) (N := 11) hx hb hts in_X0 hown hK hP 0 rfl rfl 1 (by decide) (hts _ q37) (fun _ h9 => h9) rfl dX0_add_62 ?_
        refine lv_aload_n hx hb dX0_add_65 rfl (lv_at hl 0 rfl) ?_
        refine va_get (D := D) (ci := 0) (v := .int (nI c)) (C := RX0) (T := TX0) (N := 11) hx hb hts in_X0 hown hK hP 0 rfl rfl 6 (by decide) (hts _ q42) (fun _ h9 => h9) rfl dX0_add_66 ?_
        refine lv_iconst (v := 1) hx hb dX0_add_69 (by decide) ?_
        refine g_iast hx hb hK hP (x_D hq) hS 2 1 rfl rfl (k := c) (hclt) (by decide) dX0_add_70 (fun H locs hP hS => ?_)
        have hP : va_P D vwCl (xw q d (upd w c (orF (fun k => wrdF (dr k) 32) nd)) (upd pr c 1) dr kl fl wt (nI c) (nI nd) kc fc sv) H := hP
        refine lv_aload_n hx hb dX0_add_71 rfl (lv_at hl 0 rfl) ?_
        refine lv_iconst (v := 0) hx hb dX0_add_72 (by decide) ?_
        refine va_put (D := D) (ci := 0) (v := .int 0) (ty := .int) (C := RX0) (T := TX0) (N := 11) hx hb hts in_X0 tyX0 tyX0_ok nmX0 hown hK hP (x_D hq) hS 0 rfl rfl 7 (by decide) (hts _ q43) (fun _ h9 => h9) rfl (by decide +kernel) rfl rfl (Nat.le_of_ble_eq_true rfl) dX0_add_73 (fun H locs hP hD hS => ?_)
        have hP : va_P D vwCl (xw q d (upd w c (orF (fun k => wrdF (dr k) 32) nd)) (upd pr c 1) dr kl fl wt (nI c) 0 kc fc sv) H := hP
        refine lv_aload_n hx hb dX0_add_76 rfl (lv_at hl 0 rfl) ?_
        refine lv_dup hx hb dX0_add_77 rfl ?_
        refine va_get (D := D) (ci := 0) (v := .int (nI c)) (C := RX0) (T := TX0) (N := 11) hx hb hts in_X0 hown hK hP 0 rfl rfl 6 (by decide) (hts _ q42) (fun _ h9 => h9) rfl dX0_add_78 ?_
        refine lv_iconst (v := 1) hx hb dX0_add_81 (by decide) ?_
        refine lv_iadd hx hb dX0_add_82 ?_
        refine g_tw (y := nI (c + 1)) (nI_1 c) ?_
        refine va_put (D := D) (ci := 0) (v := .int (nI (c + 1))) (ty := .int) (C := RX0) (T := TX0) (N := 11) hx hb hts in_X0 tyX0 tyX0_ok nmX0 hown hK hP (x_D hq) hS 0 rfl rfl 6 (by decide) (hts _ q42) (fun _ h9 => h9) rfl (by decide +kernel) rfl rfl (Nat.le_of_ble_eq_true rfl) dX0_add_83 (fun H locs hP hD hS => ?_)
        have hP : va_P D vwCl (xw q d (upd w c (orF (fun k => wrdF (dr k) 32) nd)) (upd pr c 1) dr kl fl wt (nI (c + 1)) 0 kc fc sv) H := hP
        refine lv_aload_n hx hb dX0_add_86 rfl (lv_at hl 0 rfl) ?_
        refine lv_iconst (v := 0) hx hb dX0_add_87 (by decide) ?_
        refine va_put (D := D) (ci := 0) (v := .int 0) (ty := .boolean) (C := RX0) (T := TX0) (N := 11) hx hb hts in_X0 tyX0 tyX0_ok nmX0 hown hK hP (x_D hq) hS 0 rfl rfl 10 (by decide) (hts _ q46) (fun _ h9 => h9) rfl (by decide +kernel) rfl rfl (Nat.le_of_ble_eq_true rfl) dX0_add_88 (fun H locs hP hD hS => ?_)
        have hP : va_P D vwCl (xw q d (upd w c (orF (fun k => wrdF (dr k) 32) nd)) (upd pr c 1) dr kl fl wt (nI (c + 1)) 0 kc fc 0) H := hP
        refine lv_aload_n hx hb dX0_add_91 rfl (lv_at hl 0 rfl) ?_
        refine va_get (D := D) (ci := 0) (v := .int (nI (c + 1))) (C := RX0) (T := TX0) (N := 11) hx hb hts in_X0 hown hK hP 0 rfl rfl 6 (by decide) (hts _ q42) (fun _ h9 => h9) rfl dX0_add_92 ?_
        refine lv_iconst (v := 1) hx hb dX0_add_95 (by decide) ?_
        refine lv_isub hx hb dX0_add_96 ?_
        refine g_tw (y := nI c) (nI_pred c) ?_
        exact g_reti (upd w c (orF (fun k => wrdF (dr k) 32) nd), upd pr c 1, dr, kl, fl, wt, nI (c + 1), 0, kc, fc, 0) hx hb hr hlocks hP hS (Or.inr ⟨hn0, Or.inr ⟨hclt, rfl, rfl⟩⟩) dX0_add_97
      · have hlt : k < nd := c_lt (by omega) (by omega) c_30
        refine lv_iload_n hx hb dX0_add_33 rfl (lv_at hl 1 rfl) ?_
        refine lv_aload_n hx hb dX0_add_34 rfl (lv_at hl 0 rfl) ?_
        refine va_get (D := D) (ci := 0) (v := .ref (q 3)) (C := RX0) (T := TX0) (N := 11) hx hb hts in_X0 hown hK hP 0 rfl rfl 2 (by decide) (hts _ q38) (fun _ h9 => h9) rfl dX0_add_35 ?_
        refine lv_iload_n hx hb dX0_add_38 rfl (lv_at hl 2 rfl) ?_
        refine g_iald hx hb hK hP 3 2 rfl rfl (k := k) (by omega) (by decide) dX0_add_39 ?_
        refine g_callR (W.runS (As := [.int (dr k)]) (rest := [.int x]) ⟨hx, hb, hml, hown, hts⟩ (mX0_wordOf l (dr k)) (va_cwS 1 hts (lw_S q79 q80 q26 q81) rfl rfl rfl (by decide +kernel) ⟨Nat.le_of_ble_eq_true rfl, Nat.le_of_ble_eq_true rfl⟩) s_pre rfl rfl hl.1 rfl (lv_room (Nat.le_of_ble_eq_true rfl)) dX0_add_40 ⟨Nat.le_of_ble_eq_true rfl, Nat.le_of_ble_eq_true rfl⟩) ?_
        refine lv_ior hx hb dX0_add_43 ?_
        refine lv_istore_n (lv' := [(1, .int (x ||| (wrdF (dr k) 32))), (0, .ref (q 0)), (2, .int (nI k))]) hx hb dX0_add_44 rfl hl (by decide) rfl (fun ls hl => ?_)
        refine lv_iinc (v := nI (k + 1)) (lv' := [(2, .int (nI (k + 1))), (1, .int (x ||| (wrdF (dr k) 32))), (0, .ref (q 0))]) hx hb dX0_add_45 hl (k := 2) rfl (inc1 _) (by decide) rfl (fun ls hl => ?_)
        refine lv_goto (tgt := 25) hx hb dX0_add_48 (by decide) ?_
        exact ih (n - 1) _ _ _ (by omega) ⟨(k + 1), (x ||| (wrdF (dr k) 32)), by omega, by rw [ex]; rfl, hP, hS, lv_sub hl [2, 1, 0] rfl⟩
    · have hclt : c = 9 := (nI_eq (b := 9) (by omega) (by decide)).mp c_15
      refine lv_bipush (v := (-2)) hx hb dX0_add_18 (by decide) ?_
      exact g_reti (w, pr, dr, kl, fl, wt, nI c, nI nd, kc, fc, sv) hx hb hr hlocks hP hS (Or.inr ⟨hn0, Or.inl ⟨hclt, rfl, rfl⟩⟩) dX0_add_20
  · have hn0 : nd = 0 := (nI_eq (b := 0) (by omega) (by decide)).mp c_4
    refine lv_iconst (v := (-1)) hx hb dX0_add_7 (by decide) ?_
    exact g_reti (w, pr, dr, kl, fl, wt, nI c, nI nd, kc, fc, sv) hx hb hr hlocks hP hS (Or.inl ⟨hn0, rfl, rfl⟩) dX0_add_8

set_option maxHeartbeats 4000000 in
theorem mX0_remove (l : Launch) (D : va_G) (q : Nat → Nat) (d : Nat → ClassId) (w : Nat → Int32) (pr : Nat → Int32) (dr : Nat → Int32) (kl : Nat → Int32) (fl : Nat → Int32) (wt : Nat → Int32) (c : Nat) (ds : Int32) (kc : Int32) (fc : Int32) (sv : Int32) (p0 : Int32) (hq : gJ 7 q) (hc9 : c ≤ 9) : Met l yX0_remove (ws_ yX0_remove cX0_remove 3 (some .int)) ({ frames := 1, cells := 0, slots := 0, locals := 21 } : Room) (gPc D (xw q d w pr dr kl fl wt (nI c) ds kc fc sv) (xt d) [.ref (q 0), .int p0]) (gQi D (xwS q d) (fun (r : Int32) (u : XS) => (isG p0 (nI c) = 0 ∧ r = -1 ∧ u = (w, pr, dr, kl, fl, wt, nI c, ds, kc, fc, sv)) ∨ ∃ j, j < c ∧ p0 = nI j ∧ r = nI (c - 1) ∧ u = (shf w j (c - 1), shf pr j (c - 1), dr, kl, fl, wt, nI (c - 1), ds, kc, fc, 0)) (gA 7 q)) 0 0 (gA 7 q) := by
  refine g_met (by decide) (Nat.le_of_ble_eq_true rfl) ?_
  intro p e s m below meth cd hx hb hr hml hown hts hlocks hname hP hK ls hl
  have hown : s.vm.findClass RX0 = some m.cls := hown
  have hl : lv_has ls 3 [(0, .ref (q 0)), (1, .int p0)] := hl
  have hS : va_S (gA 7 q) s.heap s.heap [] := va_S.rf
  refine lv_aload_n hx hb dX0_remove_0 rfl (lv_at hl 0 rfl) ?_
  refine lv_iload_n hx hb dX0_remove_1 rfl (lv_at hl 1 rfl) ?_
  refine g_callR (W.runV (As := [.int p0]) (rest := []) ⟨hx, hb, hml, hown, hts⟩ (mX0_isGood l D q d w pr dr kl fl wt c ds kc fc sv p0) (cwV 1 hts (lw_V q90 q92 qs0 q26 q93) rfl rfl rfl (by decide +kernel) ⟨Nat.le_of_ble_eq_true rfl, Nat.le_of_ble_eq_true rfl⟩) (x_preV _ hK hP) rfl rfl hl.1 rfl (lv_room (Nat.le_of_ble_eq_true rfl)) dX0_remove_2 ⟨Nat.le_of_ble_eq_true rfl, Nat.le_of_ble_eq_true rfl⟩) ?_
  refine lv_if_ne (tgt := 10) hx hb dX0_remove_5 (by decide) (fun c_5 => ?_) (fun c_5 => ?_)
  · obtain ⟨j, hj, hp⟩ := isG_t hc9 c_5
    refine lv_iload_n hx hb dX0_remove_10 rfl (lv_at hl 1 rfl) ?_
    refine g_tw (y := nI j) (hp) ?_
    refine lv_iconst (v := 1) hx hb dX0_remove_11 (by decide) ?_
    refine lv_iadd hx hb dX0_remove_12 ?_
    refine g_tw (y := nI (j + 1)) (nI_1 j) ?_
    have hP : va_P D vwCl (xw q d (shf w j j) pr dr kl fl wt (nI c) ds kc fc sv) s.heap := by rw [shf_0]; exact hP
    have hP : va_P D vwCl (xw q d (shf w j j) (shf pr j j) dr kl fl wt (nI c) ds kc fc sv) s.heap := by rw [shf_0 pr]; exact hP
    refine lv_istore_n (lv' := [(2, .int (nI (j + 1))), (0, .ref (q 0)), (1, .int p0)]) hx hb dX0_remove_13 rfl hl (by decide) rfl (fun ls hl => ?_)
    refine g_loopH (pc := 14) (P := fun n H locs ls => ∃ (i : Nat), (j ≤ i) ∧ (i + 1 + n = c) ∧ va_P D vwCl (xw q d (shf w j i) (shf pr j i) dr kl fl wt (nI c) ds kc fc sv) H ∧ va_S (gA 7 q) s.heap H locs ∧ lv_has ls 3 [(0, .ref (q 0)), (1, .int p0), (2, .int (nI (i + 1)))]) ?_ (c - (j + 1)) _ _ _ ⟨j, Nat.le_refl j, by omega, hP, hS, lv_sub hl [1, 2, 0] rfl⟩
    intro n H locs ls hh ih
    obtain ⟨i, hji, hk, hP, hS, hl⟩ := hh
    refine lv_iload_n hx hb dX0_remove_14 rfl (lv_at hl 2 rfl) ?_
    refine lv_aload_n hx hb dX0_remove_15 rfl (lv_at hl 0 rfl) ?_
    refine va_get (D := D) (ci := 0) (v := .int (nI c)) (C := RX0) (T := TX0) (N := 11) hx hb hts in_X0 hown hK hP 0 rfl rfl 6 (by decide) (hts _ q42) (fun _ h9 => h9) rfl dX0_remove_16 ?_
    refine lv_icmp_ge (tgt := 56) hx hb dX0_remove_19 (by decide) (fun c_19 => ?_) (fun c_19 => ?_)
    · have hkc : i + 1 = c := c_eq (by omega) (by omega) c_19
      refine lv_aload_n hx hb dX0_remove_56 rfl (lv_at hl 0 rfl) ?_
      refine lv_dup hx hb dX0_remove_57 rfl ?_
      refine va_get (D := D) (ci := 0) (v := .int (nI c)) (C := RX0) (T := TX0) (N := 11) hx hb hts in_X0 hown hK hP 0 rfl rfl 6 (by decide) (hts _ q42) (fun _ h9 => h9) rfl dX0_remove_58 ?_
      refine lv_iconst (v := 1) hx hb dX0_remove_61 (by decide) ?_
      refine lv_isub hx hb dX0_remove_62 ?_
      refine g_tw (y := nI (c - 1)) (nI_m1 (by omega)) ?_
      refine va_put (D := D) (ci := 0) (v := .int (nI (c - 1))) (ty := .int) (C := RX0) (T := TX0) (N := 11) hx hb hts in_X0 tyX0 tyX0_ok nmX0 hown hK hP (x_D hq) hS 0 rfl rfl 6 (by decide) (hts _ q42) (fun _ h9 => h9) rfl (by decide +kernel) rfl rfl (Nat.le_of_ble_eq_true rfl) dX0_remove_63 (fun H locs hP hD hS => ?_)
      have hP : va_P D vwCl (xw q d (shf w j i) (shf pr j i) dr kl fl wt (nI (c - 1)) ds kc fc sv) H := hP
      refine lv_aload_n hx hb dX0_remove_66 rfl (lv_at hl 0 rfl) ?_
      refine lv_iconst (v := 0) hx hb dX0_remove_67 (by decide) ?_
      refine va_put (D := D) (ci := 0) (v := .int 0) (ty := .boolean) (C := RX0) (T := TX0) (N := 11) hx hb hts in_X0 tyX0 tyX0_ok nmX0 hown hK hP (x_D hq) hS 0 rfl rfl 10 (by decide) (hts _ q46) (fun _ h9 => h9) rfl (by decide +kernel) rfl rfl (Nat.le_of_ble_eq_true rfl) dX0_remove_68 (fun H locs hP hD hS => ?_)
      have hP : va_P D vwCl (xw q d (shf w j i) (shf pr j i) dr kl fl wt (nI (c - 1)) ds kc fc 0) H := hP
      refine lv_aload_n hx hb dX0_remove_71 rfl (lv_at hl 0 rfl) ?_
      refine va_get (D := D) (ci := 0) (v := .int (nI (c - 1))) (C := RX0) (T := TX0) (N := 11) hx hb hts in_X0 hown hK hP 0 rfl rfl 6 (by decide) (hts _ q42) (fun _ h9 => h9) rfl dX0_remove_72 ?_
      exact g_reti (shf w j i, shf pr j i, dr, kl, fl, wt, nI (c - 1), ds, kc, fc, 0) hx hb hr hlocks hP hS (Or.inr ⟨j, hj, hp, rfl, by rw [show c - 1 = i by omega]⟩) dX0_remove_75
    · have hlt : i + 1 < c := c_lt (by omega) (by omega) c_19
      refine lv_aload_n hx hb dX0_remove_22 rfl (lv_at hl 0 rfl) ?_
      refine va_get (D := D) (ci := 0) (v := .ref (q 1)) (C := RX0) (T := TX0) (N := 11) hx hb hts in_X0 hown hK hP 0 rfl rfl 0 (by decide) (hts _ q36) (fun _ h9 => h9) rfl dX0_remove_23 ?_
      refine lv_iload_n hx hb dX0_remove_26 rfl (lv_at hl 2 rfl) ?_
      refine lv_iconst (v := 1) hx hb dX0_remove_27 (by decide) ?_
      refine lv_isub hx hb dX0_remove_28 ?_
      refine g_tw (y := nI i) (nI_pred i) ?_
      refine lv_aload_n hx hb dX0_remove_29 rfl (lv_at hl 0 rfl) ?_
      refine va_get (D := D) (ci := 0) (v := .ref (q 1)) (C := RX0) (T := TX0) (N := 11) hx hb hts in_X0 hown hK hP 0 rfl rfl 0 (by decide) (hts _ q36) (fun _ h9 => h9) rfl dX0_remove_30 ?_
      refine lv_iload_n hx hb dX0_remove_33 rfl (lv_at hl 2 rfl) ?_
      refine g_iald hx hb hK hP 1 0 rfl rfl (k := (i + 1)) (by omega) (by decide) dX0_remove_34 ?_
      refine g_iast hx hb hK hP (x_D hq) hS 1 0 rfl rfl (k := i) (by omega) (by decide) dX0_remove_35 (fun H locs hP hS => ?_)
      have hP : va_P D vwCl (xw q d (upd (shf w j i) i ((shf w j i) (i + 1))) (shf pr j i) dr kl fl wt (nI c) ds kc fc sv) H := hP
      have hP : va_P D vwCl (xw q d (shf w j (i + 1)) (shf pr j i) dr kl fl wt (nI c) ds kc fc sv) H := by rw [← shf_s w hji]; exact hP
      refine lv_aload_n hx hb dX0_remove_36 rfl (lv_at hl 0 rfl) ?_
      refine va_get (D := D) (ci := 0) (v := .ref (q 2)) (C := RX0) (T := TX0) (N := 11) hx hb hts in_X0 hown hK hP 0 rfl rfl 1 (by decide) (hts _ q37) (fun _ h9 => h9) rfl dX0_remove_37 ?_
      refine lv_iload_n hx hb dX0_remove_40 rfl (lv_at hl 2 rfl) ?_
      refine lv_iconst (v := 1) hx hb dX0_remove_41 (by decide) ?_
      refine lv_isub hx hb dX0_remove_42 ?_
      refine g_tw (y := nI i) (nI_pred i) ?_
      refine lv_aload_n hx hb dX0_remove_43 rfl (lv_at hl 0 rfl) ?_
      refine va_get (D := D) (ci := 0) (v := .ref (q 2)) (C := RX0) (T := TX0) (N := 11) hx hb hts in_X0 hown hK hP 0 rfl rfl 1 (by decide) (hts _ q37) (fun _ h9 => h9) rfl dX0_remove_44 ?_
      refine lv_iload_n hx hb dX0_remove_47 rfl (lv_at hl 2 rfl) ?_
      refine g_iald hx hb hK hP 2 1 rfl rfl (k := (i + 1)) (by omega) (by decide) dX0_remove_48 ?_
      refine g_iast hx hb hK hP (x_D hq) hS 2 1 rfl rfl (k := i) (by omega) (by decide) dX0_remove_49 (fun H locs hP hS => ?_)
      have hP : va_P D vwCl (xw q d (shf w j (i + 1)) (upd (shf pr j i) i ((shf pr j i) (i + 1))) dr kl fl wt (nI c) ds kc fc sv) H := hP
      have hP : va_P D vwCl (xw q d (shf w j (i + 1)) (shf pr j (i + 1)) dr kl fl wt (nI c) ds kc fc sv) H := by rw [← shf_s pr hji]; exact hP
      refine lv_iinc (v := nI ((i + 1) + 1)) (lv' := [(2, .int (nI ((i + 1) + 1))), (0, .ref (q 0)), (1, .int p0)]) hx hb dX0_remove_50 hl (k := 2) rfl (inc1 _) (by decide) rfl (fun ls hl => ?_)
      refine lv_goto (tgt := 14) hx hb dX0_remove_53 (by decide) ?_
      exact ih (n - 1) _ _ _ (by omega) ⟨(i + 1), by omega, by omega, hP, hS, lv_sub hl [1, 2, 0] rfl⟩
  · refine lv_iconst (v := (-1)) hx hb dX0_remove_8 (by decide) ?_
    exact g_reti (w, pr, dr, kl, fl, wt, nI c, ds, kc, fc, sv) hx hb hr hlocks hP hS (Or.inl ⟨c_5, rfl, rfl⟩) dX0_remove_9

set_option maxHeartbeats 4000000 in
theorem mX0_price (l : Launch) (D : va_G) (q : Nat → Nat) (d : Nat → ClassId) (w : Nat → Int32) (pr : Nat → Int32) (dr : Nat → Int32) (kl : Nat → Int32) (fl : Nat → Int32) (wt : Nat → Int32) (c : Nat) (ds : Int32) (kc : Int32) (fc : Int32) (sv : Int32) (p0 : Int32) (p1 : Int32) (hq : gJ 7 q) (hc9 : c ≤ 9) : Met l yX0_price (ws_ yX0_price cX0_price 4 (some .int)) ({ frames := 1, cells := 0, slots := 0, locals := 21 } : Room) (gPc D (xw q d w pr dr kl fl wt (nI c) ds kc fc sv) (xt d) [.ref (q 0), .int p0, .int p1]) (gQi D (xwS q d) (fun (r : Int32) (u : XS) => (isG p0 (nI c) = 0 ∧ r = -1 ∧ u = (w, pr, dr, kl, fl, wt, nI c, ds, kc, fc, sv)) ∨ ∃ j, j < c ∧ p0 = nI j ∧ ((p1 < 1 ∨ ¬ p1 ≤ 20) ∧ r = -2 ∧ u = (w, pr, dr, kl, fl, wt, nI c, ds, kc, fc, sv) ∨ (¬ p1 < 1 ∧ p1 ≤ 20) ∧ r = pr j ∧ u = (w, upd pr j p1, dr, kl, fl, wt, nI c, ds, kc, fc, sv))) (gA 7 q)) 0 0 (gA 7 q) := by
  refine g_met (by decide) (Nat.le_of_ble_eq_true rfl) ?_
  intro p e s m below meth cd hx hb hr hml hown hts hlocks hname hP hK ls hl
  have hown : s.vm.findClass RX0 = some m.cls := hown
  have hl : lv_has ls 4 [(0, .ref (q 0)), (1, .int p0), (2, .int p1)] := hl
  have hS : va_S (gA 7 q) s.heap s.heap [] := va_S.rf
  refine lv_aload_n hx hb dX0_price_0 rfl (lv_at hl 0 rfl) ?_
  refine lv_iload_n hx hb dX0_price_1 rfl (lv_at hl 1 rfl) ?_
  refine g_callR (W.runV (As := [.int p0]) (rest := []) ⟨hx, hb, hml, hown, hts⟩ (mX0_isGood l D q d w pr dr kl fl wt c ds kc fc sv p0) (cwV 1 hts (lw_V q90 q92 qs0 q26 q93) rfl rfl rfl (by decide +kernel) ⟨Nat.le_of_ble_eq_true rfl, Nat.le_of_ble_eq_true rfl⟩) (x_preV _ hK hP) rfl rfl hl.1 rfl (lv_room (Nat.le_of_ble_eq_true rfl)) dX0_price_2 ⟨Nat.le_of_ble_eq_true rfl, Nat.le_of_ble_eq_true rfl⟩) ?_
  refine lv_if_ne (tgt := 10) hx hb dX0_price_5 (by decide) (fun c_5 => ?_) (fun c_5 => ?_)
  · obtain ⟨j, hj, hp⟩ := isG_t hc9 c_5
    refine lv_iload_n hx hb dX0_price_10 rfl (lv_at hl 2 rfl) ?_
    refine lv_iconst (v := 1) hx hb dX0_price_11 (by decide) ?_
    refine lv_icmp_lt (tgt := 21) hx hb dX0_price_12 (by decide) (fun c_12 => ?_) (fun c_12 => ?_)
    · refine lv_bipush (v := (-2)) hx hb dX0_price_21 (by decide) ?_
      exact g_reti (w, pr, dr, kl, fl, wt, nI c, ds, kc, fc, sv) hx hb hr hlocks hP hS (Or.inr ⟨j, hj, hp, Or.inl ⟨Or.inl c_12, rfl, rfl⟩⟩) dX0_price_23
    · refine lv_iload_n hx hb dX0_price_15 rfl (lv_at hl 2 rfl) ?_
      refine lv_bipush (v := 20) hx hb dX0_price_16 (by decide) ?_
      refine lv_icmp_le (tgt := 24) hx hb dX0_price_18 (by decide) (fun c_18 => ?_) (fun c_18 => ?_)
      · refine lv_aload_n hx hb dX0_price_24 rfl (lv_at hl 0 rfl) ?_
        refine va_get (D := D) (ci := 0) (v := .ref (q 2)) (C := RX0) (T := TX0) (N := 11) hx hb hts in_X0 hown hK hP 0 rfl rfl 1 (by decide) (hts _ q37) (fun _ h9 => h9) rfl dX0_price_25 ?_
        refine lv_iload_n hx hb dX0_price_28 rfl (lv_at hl 1 rfl) ?_
        refine g_tw (y := nI j) (hp) ?_
        refine g_iald hx hb hK hP 2 1 rfl rfl (k := j) (by omega) (by decide) dX0_price_29 ?_
        refine lv_istore_n (lv' := [(3, .int (pr j)), (0, .ref (q 0)), (1, .int p0), (2, .int p1)]) hx hb dX0_price_30 rfl hl (by decide) rfl (fun ls hl => ?_)
        refine lv_aload_n hx hb dX0_price_31 rfl (lv_at hl 1 rfl) ?_
        refine va_get (D := D) (ci := 0) (v := .ref (q 2)) (C := RX0) (T := TX0) (N := 11) hx hb hts in_X0 hown hK hP 0 rfl rfl 1 (by decide) (hts _ q37) (fun _ h9 => h9) rfl dX0_price_32 ?_
        refine lv_iload_n hx hb dX0_price_35 rfl (lv_at hl 2 rfl) ?_
        refine g_tw (y := nI j) (hp) ?_
        refine lv_iload_n hx hb dX0_price_36 rfl (lv_at hl 3 rfl) ?_
        refine g_iast hx hb hK hP (x_D hq) hS 2 1 rfl rfl (k := j) (by omega) (by decide) dX0_price_37 (fun H locs hP hS => ?_)
        have hP : va_P D vwCl (xw q d w (upd pr j p1) dr kl fl wt (nI c) ds kc fc sv) H := hP
        refine lv_iload_n hx hb dX0_price_38 rfl (lv_at hl 0 rfl) ?_
        exact g_reti (w, upd pr j p1, dr, kl, fl, wt, nI c, ds, kc, fc, sv) hx hb hr hlocks hP hS (Or.inr ⟨j, hj, hp, Or.inr ⟨⟨c_12, c_18⟩, rfl, rfl⟩⟩) dX0_price_39
      · refine lv_bipush (v := (-2)) hx hb dX0_price_21 (by decide) ?_
        exact g_reti (w, pr, dr, kl, fl, wt, nI c, ds, kc, fc, sv) hx hb hr hlocks hP hS (Or.inr ⟨j, hj, hp, Or.inl ⟨Or.inr c_18, rfl, rfl⟩⟩) dX0_price_23
  · refine lv_iconst (v := (-1)) hx hb dX0_price_8 (by decide) ?_
    exact g_reti (w, pr, dr, kl, fl, wt, nI c, ds, kc, fc, sv) hx hb hr hlocks hP hS (Or.inl ⟨c_5, rfl, rfl⟩) dX0_price_9

set_option maxHeartbeats 4000000 in
theorem mX0_takeOff (l : Launch) (D : va_G) (q : Nat → Nat) (d : Nat → ClassId) (w : Nat → Int32) (pr : Nat → Int32) (dr : Nat → Int32) (kl : Nat → Int32) (fl : Nat → Int32) (wt : Nat → Int32) (c : Nat) (ds : Int32) (kc : Int32) (fc : Int32) (sv : Int32) (t : Nat) (hq : gJ 7 q) (ht : t < 512) : Met l yX0_takeOff (ws_ yX0_takeOff cX0_takeOff 2 none) ({ frames := 0, cells := 0, slots := 0, locals := 0 } : Room) (gPc D (xw q d w pr dr kl fl wt (nI c) ds kc fc sv) (xt d) [.ref (q 0), .int (nI t)]) (gQv D (xwS q d) (fun (u : XS) => u = (w, pr, dr, kl, fl, tkO wt t, nI c, ds, kc, fc, sv)) (gA 7 q)) 0 0 (gA 7 q) := by
  refine g_met (by decide) (Nat.le_of_ble_eq_true rfl) ?_
  intro p e s m below meth cd hx hb hr hml hown hts hlocks hname hP hK ls hl
  have hown : s.vm.findClass RX0 = some m.cls := hown
  have hl : lv_has ls 2 [(0, .ref (q 0)), (1, .int (nI t))] := hl
  have hS : va_S (gA 7 q) s.heap s.heap [] := va_S.rf
  refine lv_aload_n hx hb dX0_takeOff_0 rfl (lv_at hl 0 rfl) ?_
  refine va_get (D := D) (ci := 0) (v := .ref (q 6)) (C := RX0) (T := TX0) (N := 11) hx hb hts in_X0 hown hK hP 0 rfl rfl 5 (by decide) (hts _ q41) (fun _ h9 => h9) rfl dX0_takeOff_1 ?_
  refine lv_iload_n hx hb dX0_takeOff_4 rfl (lv_at hl 1 rfl) ?_
  refine lv_iconst (v := 5) hx hb dX0_takeOff_5 (by decide) ?_
  refine lv_ishr hx hb dX0_takeOff_6 ?_
  refine g_tw (y := nI (t / 32)) (sh5 ht) ?_
  refine lv_aload_n hx hb dX0_takeOff_7 rfl (lv_at hl 0 rfl) ?_
  refine va_get (D := D) (ci := 0) (v := .ref (q 6)) (C := RX0) (T := TX0) (N := 11) hx hb hts in_X0 hown hK hP 0 rfl rfl 5 (by decide) (hts _ q41) (fun _ h9 => h9) rfl dX0_takeOff_8 ?_
  refine lv_iload_n hx hb dX0_takeOff_11 rfl (lv_at hl 1 rfl) ?_
  refine lv_iconst (v := 5) hx hb dX0_takeOff_12 (by decide) ?_
  refine lv_ishr hx hb dX0_takeOff_13 ?_
  refine g_tw (y := nI (t / 32)) (sh5 ht) ?_
  refine g_iald hx hb hK hP 6 5 rfl rfl (k := (t / 32)) (by omega) (by decide) dX0_takeOff_14 ?_
  refine lv_iconst (v := 1) hx hb dX0_takeOff_15 (by decide) ?_
  refine lv_iload_n hx hb dX0_takeOff_16 rfl (lv_at hl 1 rfl) ?_
  refine lv_bipush (v := 31) hx hb dX0_takeOff_17 (by decide) ?_
  refine lv_iand hx hb dX0_takeOff_19 ?_
  refine g_tw (y := nI (t % 32)) (an31 t) ?_
  refine lv_ishl hx hb dX0_takeOff_20 ?_
  refine lv_iconst (v := (-1)) hx hb dX0_takeOff_21 (by decide) ?_
  refine lv_ixor hx hb dX0_takeOff_22 ?_
  refine lv_iand hx hb dX0_takeOff_23 ?_
  refine g_iast hx hb hK hP (x_D hq) hS 6 5 rfl rfl (k := (t / 32)) (by omega) (by decide) dX0_takeOff_24 (fun H locs hP hS => ?_)
  have hP : va_P D vwCl (xw q d w pr dr kl fl (upd wt (t / 32) ((wt (t / 32)) &&& ((1 <<< ((nI (t % 32)) &&& 31)) ^^^ (-1)))) (nI c) ds kc fc sv) H := hP
  exact g_retv (w, pr, dr, kl, fl, upd wt (t / 32) ((wt (t / 32)) &&& ((1 <<< ((nI (t % 32)) &&& 31)) ^^^ (-1))), nI c, ds, kc, fc, sv) hx hb hr hlocks hP hS (rfl) dX0_takeOff_25

set_option maxHeartbeats 4000000 in
theorem mX0_takeParts (l : Launch) (D : va_G) (q : Nat → Nat) (d : Nat → ClassId) (w : Nat → Int32) (pr : Nat → Int32) (dr : Nat → Int32) (kl : Nat → Int32) (fl : Nat → Int32) (wt : Nat → Int32) (c : Nat) (ds : Int32) (kc : Int32) (fc : Int32) (sv : Int32) (a : Nat) (hq : gJ 7 q) (ha : a < 512) : Met l yX0_takeParts (ws_ yX0_takeParts cX0_takeParts 4 none) ({ frames := 1, cells := 0, slots := 0, locals := 21 } : Room) (gPc D (xw q d w pr dr kl fl wt (nI c) ds kc fc sv) (xt d) [.ref (q 0), .int (nI a)]) (gQv D (xwS q d) (fun (u : XS) => ∃ f : Nat → Int32, u = (w, pr, dr, kl, fl, f, nI c, ds, kc, fc, sv) ∧ ∀ t, t < 512 → wtB f t = (wtB wt t && !decide (t &&& a = t))) (gA 7 q)) 0 0 (gA 7 q) := by
  refine g_met (by decide) (Nat.le_of_ble_eq_true rfl) ?_
  intro p e s m below meth cd hx hb hr hml hown hts hlocks hname hP hK ls hl
  have hown : s.vm.findClass RX0 = some m.cls := hown
  have hl : lv_has ls 4 [(0, .ref (q 0)), (1, .int (nI a))] := hl
  have hS : va_S (gA 7 q) s.heap s.heap [] := va_S.rf
  refine lv_iload_n hx hb dX0_takeParts_0 rfl (lv_at hl 1 rfl) ?_
  refine lv_istore_n (lv' := [(2, .int (nI a)), (0, .ref (q 0)), (1, .int (nI a))]) hx hb dX0_takeParts_1 rfl hl (by decide) rfl (fun ls hl => ?_)
  refine lv_iconst (v := 0) hx hb dX0_takeParts_2 (by decide) ?_
  refine lv_istore_n (lv' := [(3, .int 0), (2, .int (nI a)), (0, .ref (q 0)), (1, .int (nI a))]) hx hb dX0_takeParts_3 rfl hl (by decide) rfl (fun ls hl => ?_)
  refine g_loopH (pc := 4) (P := fun n H locs ls => ∃ (k : Nat) (x : Nat) (f : Nat → Int32), (n = x) ∧ (k + x ≤ 511) ∧ (x &&& a = x) ∧ (∀ t, t < 512 → wtB f t = (wtB wt t && !decide (t &&& a = t ∧ x < t))) ∧ va_P D vwCl (xw q d w pr dr kl fl f (nI c) ds kc fc sv) H ∧ va_S (gA 7 q) s.heap H locs ∧ lv_has ls 4 [(0, .ref (q 0)), (1, .int (nI a)), (2, .int (nI x)), (3, .int (nI k))]) ?_ (a) _ _ _ ⟨0, a, wt, rfl, by omega, Nat.and_self a, fun t _ => by by_cases z : t &&& a = t ∧ a < t; (have := @Nat.and_le_right t a; omega); rw [decide_eq_false z, Bool.not_false, Bool.and_true], hP, hS, lv_sub hl [2, 3, 1, 0] rfl⟩
  intro n H locs ls hh ih
  obtain ⟨k, x, f, hn, hk, hpa, hf, hP, hS, hl⟩ := hh
  refine lv_iload_n hx hb dX0_takeParts_4 rfl (lv_at hl 3 rfl) ?_
  refine lv_sipush (v := 512) hx hb dX0_takeParts_5 (by decide) ?_
  refine lv_icmp_ge (tgt := 35) hx hb dX0_takeParts_8 (by decide) (fun c_8 => ?_) (fun c_8 => ?_)
  · exact absurd c_8 (nI_ge (b := 512) (by omega) (by decide))
  · refine lv_aload_n hx hb dX0_takeParts_11 rfl (lv_at hl 0 rfl) ?_
    refine lv_iload_n hx hb dX0_takeParts_12 rfl (lv_at hl 2 rfl) ?_
    refine g_callv (va_runV (As := [.int (nI x)]) (rest := []) ⟨hx, hb, hml, hown, hts⟩ (mX0_takeOff l D q d w pr dr kl fl f c ds kc fc sv x hq (by omega)) (cwV 1 hts (lw_V q142 q144 qs8 q26 q145) rfl rfl rfl (by decide +kernel) ⟨Nat.le_of_ble_eq_true rfl, Nat.le_of_ble_eq_true rfl⟩) (x_preV _ hK hP) rfl rfl hl.1 rfl (lv_room (Nat.le_of_ble_eq_true rfl)) dX0_takeParts_13 ⟨Nat.le_of_ble_eq_true rfl, Nat.le_of_ble_eq_true rfl⟩) hS (fun u H locs hu hP hS => ?_)
    subst hu
    have hP : va_P D vwCl (xw q d w pr dr kl fl (tkO f x) (nI c) ds kc fc sv) H := hP
    refine lv_iload_n hx hb dX0_takeParts_16 rfl (lv_at hl 2 rfl) ?_
    refine lv_if_ne (tgt := 23) hx hb dX0_takeParts_17 (by decide) (fun c_17 => ?_) (fun c_17 => ?_)
    · have hx0 : 0 < x := by rcases Nat.eq_zero_or_pos x with z | z; exact absurd (by rw [z]; rfl) c_17; exact z
      refine lv_iload_n hx hb dX0_takeParts_23 rfl (lv_at hl 2 rfl) ?_
      refine lv_iconst (v := 1) hx hb dX0_takeParts_24 (by decide) ?_
      refine lv_isub hx hb dX0_takeParts_25 ?_
      refine g_tw (y := nI (x - 1)) (nI_m1 hx0) ?_
      refine lv_iload_n hx hb dX0_takeParts_26 rfl (lv_at hl 1 rfl) ?_
      refine lv_iand hx hb dX0_takeParts_27 ?_
      refine g_tw (y := nI ((x - 1) &&& a)) (nx_and _ _) ?_
      refine lv_istore_n (lv' := [(2, .int (nI ((x - 1) &&& a))), (0, .ref (q 0)), (1, .int (nI a)), (3, .int (nI k))]) hx hb dX0_takeParts_28 rfl hl (by decide) rfl (fun ls hl => ?_)
      refine lv_iinc (v := nI (k + 1)) (lv' := [(3, .int (nI (k + 1))), (2, .int (nI ((x - 1) &&& a))), (0, .ref (q 0)), (1, .int (nI a))]) hx hb dX0_takeParts_29 hl (k := 3) rfl (inc1 _) (by decide) rfl (fun ls hl => ?_)
      refine lv_goto (tgt := 4) hx hb dX0_takeParts_32 (by decide) ?_
      exact ih ((x - 1) &&& a) _ _ _ (by have := @Nat.and_le_left (x - 1) a; omega) ⟨(k + 1), ((x - 1) &&& a), tkO f x, rfl, by have := @Nat.and_le_left (x - 1) a; omega, by rw [Nat.and_assoc, Nat.and_self], tkP_s ha (by omega) hx0 hpa hf, hP, hS, lv_sub hl [2, 3, 1, 0] rfl⟩
    · have hx0 : x = 0 := (nI_eq (b := 0) (by omega) (by decide)).mp c_17
      refine lv_goto (tgt := 35) hx hb dX0_takeParts_20 (by decide) ?_
      exact g_retv (w, pr, dr, kl, fl, tkO f x, nI c, ds, kc, fc, sv) hx hb hr hlocks hP hS (⟨tkO f x, rfl, tkP_0 hx0 hf⟩) dX0_takeParts_35

set_option maxHeartbeats 4000000 in
theorem mX0_takeAround (l : Launch) (D : va_G) (q : Nat → Nat) (d : Nat → ClassId) (w : Nat → Int32) (pr : Nat → Int32) (dr : Nat → Int32) (kl : Nat → Int32) (fl : Nat → Int32) (wt : Nat → Int32) (c : Nat) (ds : Int32) (kc : Int32) (fc : Int32) (sv : Int32) (b : Nat) (a : Nat) (hq : gJ 7 q) (hb5 : b < 512) (ha : a < 512) : Met l yX0_takeAround (ws_ yX0_takeAround cX0_takeAround 6 none) ({ frames := 1, cells := 0, slots := 0, locals := 21 } : Room) (gPc D (xw q d w pr dr kl fl wt (nI c) ds kc fc sv) (xt d) [.ref (q 0), .int (nI b), .int (nI a)]) (gQv D (xwS q d) (fun (u : XS) => ∃ f : Nat → Int32, u = (w, pr, dr, kl, fl, f, nI c, ds, kc, fc, sv) ∧ ∀ t, t < 512 → wtB f t = (wtB wt t && !decide (t = b ||| (t &&& sdf a b)))) (gA 7 q)) 0 0 (gA 7 q) := by
  refine g_met (by decide) (Nat.le_of_ble_eq_true rfl) ?_
  intro p e s m below meth cd hx hb hr hml hown hts hlocks hname hP hK ls hl
  have hown : s.vm.findClass RX0 = some m.cls := hown
  have hl : lv_has ls 6 [(0, .ref (q 0)), (1, .int (nI b)), (2, .int (nI a))] := hl
  have hS : va_S (gA 7 q) s.heap s.heap [] := va_S.rf
  have hr5 := sdf_le a b
  have hbr := sdf_dis a b
  refine lv_iload_n hx hb dX0_takeAround_0 rfl (lv_at hl 2 rfl) ?_
  refine lv_iload_n hx hb dX0_takeAround_1 rfl (lv_at hl 1 rfl) ?_
  refine lv_iconst (v := (-1)) hx hb dX0_takeAround_2 (by decide) ?_
  refine lv_ixor hx hb dX0_takeAround_3 ?_
  refine lv_iand hx hb dX0_takeAround_4 ?_
  refine g_tw (y := nI (sdf a b)) (sd_I a b) ?_
  refine lv_istore_n (lv' := [(3, .int (nI (sdf a b))), (0, .ref (q 0)), (1, .int (nI b)), (2, .int (nI a))]) hx hb dX0_takeAround_5 rfl hl (by decide) rfl (fun ls hl => ?_)
  refine lv_iload_n hx hb dX0_takeAround_6 rfl (lv_at hl 0 rfl) ?_
  refine lv_istore (lv' := [(4, .int (nI (sdf a b))), (3, .int (nI (sdf a b))), (0, .ref (q 0)), (1, .int (nI b)), (2, .int (nI a))]) hx hb dX0_takeAround_7 hl (by decide) rfl (fun ls hl => ?_)
  refine lv_iconst (v := 0) hx hb dX0_takeAround_9 (by decide) ?_
  refine lv_istore (lv' := [(5, .int 0), (4, .int (nI (sdf a b))), (3, .int (nI (sdf a b))), (0, .ref (q 0)), (1, .int (nI b)), (2, .int (nI a))]) hx hb dX0_takeAround_10 hl (by decide) rfl (fun ls hl => ?_)
  refine g_loopH (pc := 12) (P := fun n H locs ls => ∃ (k : Nat) (x : Nat) (f : Nat → Int32), (n = x) ∧ (k + x ≤ 511) ∧ (x &&& sdf a b = x) ∧ (∀ t, t < 512 → wtB f t = (wtB wt t && !decide (t = b ||| (t &&& sdf a b) ∧ x < t &&& sdf a b))) ∧ va_P D vwCl (xw q d w pr dr kl fl f (nI c) ds kc fc sv) H ∧ va_S (gA 7 q) s.heap H locs ∧ lv_has ls 6 [(0, .ref (q 0)), (1, .int (nI b)), (2, .int (nI a)), (3, .int (nI (sdf a b))), (4, .int (nI x)), (5, .int (nI k))]) ?_ (sdf a b) _ _ _ ⟨0, (sdf a b), wt, rfl, by omega, Nat.and_self _, fun t _ => by by_cases z : t = b ||| (t &&& sdf a b) ∧ sdf a b < t &&& sdf a b; (have := @Nat.and_le_right t (sdf a b); omega); rw [decide_eq_false z, Bool.not_false, Bool.and_true], hP, hS, lv_sub hl [3, 4, 5, 2, 1, 0] rfl⟩
  intro n H locs ls hh ih
  obtain ⟨k, x, f, hn, hk, hpa, hf, hP, hS, hl⟩ := hh
  refine lv_iload hx hb dX0_takeAround_12 (lv_at hl 5 rfl) ?_
  refine lv_sipush (v := 512) hx hb dX0_takeAround_14 (by decide) ?_
  refine lv_icmp_ge (tgt := 50) hx hb dX0_takeAround_17 (by decide) (fun c_17 => ?_) (fun c_17 => ?_)
  · exact absurd c_17 (nI_ge (b := 512) (by omega) (by decide))
  · have hbx : b ||| x < 512 := Nat.or_lt_two_pow (n := 9) hb5 (by omega)
    refine lv_aload_n hx hb dX0_takeAround_20 rfl (lv_at hl 0 rfl) ?_
    refine lv_iload_n hx hb dX0_takeAround_21 rfl (lv_at hl 1 rfl) ?_
    refine lv_iload hx hb dX0_takeAround_22 (lv_at hl 4 rfl) ?_
    refine lv_ior hx hb dX0_takeAround_24 ?_
    refine g_tw (y := nI (b ||| x)) (nx_or _ _) ?_
    refine g_callv (va_runV (As := [.int (nI (b ||| x))]) (rest := []) ⟨hx, hb, hml, hown, hts⟩ (mX0_takeOff l D q d w pr dr kl fl f c ds kc fc sv (b ||| x) hq hbx) (cwV 1 hts (lw_V q142 q144 qs8 q26 q145) rfl rfl rfl (by decide +kernel) ⟨Nat.le_of_ble_eq_true rfl, Nat.le_of_ble_eq_true rfl⟩) (x_preV _ hK hP) rfl rfl hl.1 rfl (lv_room (Nat.le_of_ble_eq_true rfl)) dX0_takeAround_25 ⟨Nat.le_of_ble_eq_true rfl, Nat.le_of_ble_eq_true rfl⟩) hS (fun u H locs hu hP hS => ?_)
    subst hu
    have hP : va_P D vwCl (xw q d w pr dr kl fl (tkO f (b ||| x)) (nI c) ds kc fc sv) H := hP
    refine lv_iload hx hb dX0_takeAround_28 (lv_at hl 4 rfl) ?_
    refine lv_if_ne (tgt := 36) hx hb dX0_takeAround_30 (by decide) (fun c_30 => ?_) (fun c_30 => ?_)
    · have hx0 : 0 < x := by rcases Nat.eq_zero_or_pos x with z | z; exact absurd (by rw [z]; rfl) c_30; exact z
      refine lv_iload hx hb dX0_takeAround_36 (lv_at hl 4 rfl) ?_
      refine lv_iconst (v := 1) hx hb dX0_takeAround_38 (by decide) ?_
      refine lv_isub hx hb dX0_takeAround_39 ?_
      refine g_tw (y := nI (x - 1)) (nI_m1 hx0) ?_
      refine lv_iload_n hx hb dX0_takeAround_40 rfl (lv_at hl 3 rfl) ?_
      refine lv_iand hx hb dX0_takeAround_41 ?_
      refine g_tw (y := nI ((x - 1) &&& sdf a b)) (nx_and _ _) ?_
      refine lv_istore (lv' := [(4, .int (nI ((x - 1) &&& sdf a b))), (0, .ref (q 0)), (1, .int (nI b)), (2, .int (nI a)), (3, .int (nI (sdf a b))), (5, .int (nI k))]) hx hb dX0_takeAround_42 hl (by decide) rfl (fun ls hl => ?_)
      refine lv_iinc (v := nI (k + 1)) (lv' := [(5, .int (nI (k + 1))), (4, .int (nI ((x - 1) &&& sdf a b))), (0, .ref (q 0)), (1, .int (nI b)), (2, .int (nI a)), (3, .int (nI (sdf a b)))]) hx hb dX0_takeAround_44 hl (k := 5) rfl (inc1 _) (by decide) rfl (fun ls hl => ?_)
      refine lv_goto (tgt := 12) hx hb dX0_takeAround_47 (by decide) ?_
      exact ih ((x - 1) &&& sdf a b) _ _ _ (by have := @Nat.and_le_left (x - 1) (sdf a b); omega) ⟨(k + 1), ((x - 1) &&& sdf a b), tkO f (b ||| x), rfl, by have := @Nat.and_le_left (x - 1) (sdf a b); omega, by rw [Nat.and_assoc, Nat.and_self], tkA_s hbr (by omega) (by omega) hx0 hpa hf, hP, hS, lv_sub hl [2, 3, 4, 5, 1, 0] rfl⟩
    · have hx0 : x = 0 := (nI_eq (b := 0) (by omega) (by decide)).mp c_30
      refine lv_goto (tgt := 50) hx hb dX0_takeAround_33 (by decide) ?_
      exact g_retv (w, pr, dr, kl, fl, tkO f (b ||| x), nI c, ds, kc, fc, sv) hx hb hr hlocks hP hS (⟨tkO f (b ||| x), rfl, tkA_0 hbr hx0 hf⟩) dX0_takeAround_50

set_option maxHeartbeats 4000000 in
theorem mX0_putKernel (l : Launch) (D : va_G) (q : Nat → Nat) (d : Nat → ClassId) (w : Nat → Int32) (pr : Nat → Int32) (dr : Nat → Int32) (kl : Nat → Int32) (fl : Nat → Int32) (wt : Nat → Int32) (c : Nat) (ds : Int32) (z : Nat) (fc : Int32) (sv : Int32) (t : Nat) (hq : gJ 7 q) (hz : z ≤ 125) : Met l yX0_putKernel (ws_ yX0_putKernel cX0_putKernel 3 none) ({ frames := 0, cells := 0, slots := 0, locals := 0 } : Room) (gPc D (xw q d w pr dr kl fl wt (nI c) ds (nI z) fc sv) (xt d) [.ref (q 0), .int (nI t)]) (gQv D (xwS q d) (fun (u : XS) => ∃ a, a ≤ z ∧ (∀ i, a ≤ i → i < z → nI t < kl i) ∧ (a = 0 ∨ kl (a - 1) ≤ nI t) ∧ u = (w, pr, dr, upd (movF kl a z) a (nI t), fl, wt, nI c, ds, nI (z + 1), fc, sv)) (gA 7 q)) 0 0 (gA 7 q) := by
  refine g_met (by decide) (Nat.le_of_ble_eq_true rfl) ?_
  intro p e s m below meth cd hx hb hr hml hown hts hlocks hname hP hK ls hl
  have hown : s.vm.findClass RX0 = some m.cls := hown
  have hl : lv_has ls 3 [(0, .ref (q 0)), (1, .int (nI t))] := hl
  have hS : va_S (gA 7 q) s.heap s.heap [] := va_S.rf
  refine lv_aload_n hx hb dX0_putKernel_0 rfl (lv_at hl 0 rfl) ?_
  refine va_get (D := D) (ci := 0) (v := .int (nI z)) (C := RX0) (T := TX0) (N := 11) hx hb hts in_X0 hown hK hP 0 rfl rfl 8 (by decide) (hts _ q44) (fun _ h9 => h9) rfl dX0_putKernel_1 ?_
  have hP : va_P D vwCl (xw q d w pr dr (movF kl z z) fl wt (nI c) ds (nI z) fc sv) s.heap := by rw [movF_0]; exact hP
  refine lv_istore_n (lv' := [(2, .int (nI z)), (0, .ref (q 0)), (1, .int (nI t))]) hx hb dX0_putKernel_4 rfl hl (by decide) rfl (fun ls hl => ?_)
  refine g_loopH (pc := 5) (P := fun n H locs ls => ∃ (a : Nat), (n = a) ∧ (a ≤ z) ∧ (∀ i, a ≤ i → i < z → nI t < kl i) ∧ va_P D vwCl (xw q d w pr dr (movF kl a z) fl wt (nI c) ds (nI z) fc sv) H ∧ va_S (gA 7 q) s.heap H locs ∧ lv_has ls 3 [(0, .ref (q 0)), (1, .int (nI t)), (2, .int (nI a))]) ?_ (z) _ _ _ ⟨z, rfl, Nat.le_refl z, fun i h1 h2 => by omega, hP, hS, lv_sub hl [1, 2, 0] rfl⟩
  intro n H locs ls hh ih
  obtain ⟨a, hn, haz, hg, hP, hS, hl⟩ := hh
  refine lv_iload_n hx hb dX0_putKernel_5 rfl (lv_at hl 2 rfl) ?_
  refine lv_if_le (tgt := 47) hx hb dX0_putKernel_6 (by decide) (fun c_6 => ?_) (fun c_6 => ?_)
  · have ha0 : a = 0 := by rcases Nat.eq_zero_or_pos a with r | r; exact r; exact absurd c_6 (nI_nle r (by omega))
    refine lv_aload_n hx hb dX0_putKernel_47 rfl (lv_at hl 0 rfl) ?_
    refine va_get (D := D) (ci := 0) (v := .ref (q 4)) (C := RX0) (T := TX0) (N := 11) hx hb hts in_X0 hown hK hP 0 rfl rfl 3 (by decide) (hts _ q39) (fun _ h9 => h9) rfl dX0_putKernel_48 ?_
    refine lv_iload_n hx hb dX0_putKernel_51 rfl (lv_at hl 2 rfl) ?_
    refine lv_iload_n hx hb dX0_putKernel_52 rfl (lv_at hl 1 rfl) ?_
    refine g_iast hx hb hK hP (x_D hq) hS 4 3 rfl rfl (k := a) (by omega) (by decide) dX0_putKernel_53 (fun H locs hP hS => ?_)
    have hP : va_P D vwCl (xw q d w pr dr (upd (movF kl a z) a (nI t)) fl wt (nI c) ds (nI z) fc sv) H := hP
    refine lv_aload_n hx hb dX0_putKernel_54 rfl (lv_at hl 0 rfl) ?_
    refine lv_dup hx hb dX0_putKernel_55 rfl ?_
    refine va_get (D := D) (ci := 0) (v := .int (nI z)) (C := RX0) (T := TX0) (N := 11) hx hb hts in_X0 hown hK hP 0 rfl rfl 8 (by decide) (hts _ q44) (fun _ h9 => h9) rfl dX0_putKernel_56 ?_
    refine lv_iconst (v := 1) hx hb dX0_putKernel_59 (by decide) ?_
    refine lv_iadd hx hb dX0_putKernel_60 ?_
    refine g_tw (y := nI (z + 1)) (nI_1 z) ?_
    refine va_put (D := D) (ci := 0) (v := .int (nI (z + 1))) (ty := .int) (C := RX0) (T := TX0) (N := 11) hx hb hts in_X0 tyX0 tyX0_ok nmX0 hown hK hP (x_D hq) hS 0 rfl rfl 8 (by decide) (hts _ q44) (fun _ h9 => h9) rfl (by decide +kernel) rfl rfl (Nat.le_of_ble_eq_true rfl) dX0_putKernel_61 (fun H locs hP hD hS => ?_)
    have hP : va_P D vwCl (xw q d w pr dr (upd (movF kl a z) a (nI t)) fl wt (nI c) ds (nI (z + 1)) fc sv) H := hP
    exact g_retv (w, pr, dr, upd (movF kl a z) a (nI t), fl, wt, nI c, ds, nI (z + 1), fc, sv) hx hb hr hlocks hP hS (⟨a, haz, hg, Or.inl ha0, rfl⟩) dX0_putKernel_64
  · have ha0 : 0 < a := by rcases Nat.eq_zero_or_pos a with r | r; exact absurd (by rw [r]; decide) c_6; exact r
    refine lv_iload_n hx hb dX0_putKernel_9 rfl (lv_at hl 2 rfl) ?_
    refine lv_bipush (v := 126) hx hb dX0_putKernel_10 (by decide) ?_
    refine lv_icmp_ge (tgt := 47) hx hb dX0_putKernel_12 (by decide) (fun c_12 => ?_) (fun c_12 => ?_)
    · exact absurd c_12 (nI_ge (b := 126) (by omega) (by decide))
    · refine lv_aload_n hx hb dX0_putKernel_15 rfl (lv_at hl 0 rfl) ?_
      refine va_get (D := D) (ci := 0) (v := .ref (q 4)) (C := RX0) (T := TX0) (N := 11) hx hb hts in_X0 hown hK hP 0 rfl rfl 3 (by decide) (hts _ q39) (fun _ h9 => h9) rfl dX0_putKernel_16 ?_
      refine lv_iload_n hx hb dX0_putKernel_19 rfl (lv_at hl 2 rfl) ?_
      refine lv_iconst (v := 1) hx hb dX0_putKernel_20 (by decide) ?_
      refine lv_isub hx hb dX0_putKernel_21 ?_
      refine g_tw (y := nI (a - 1)) (nI_m1 ha0) ?_
      refine g_iald hx hb hK hP 4 3 rfl rfl (k := (a - 1)) (by omega) (by decide) dX0_putKernel_22 ?_
      refine lv_iload_n hx hb dX0_putKernel_23 rfl (lv_at hl 1 rfl) ?_
      refine lv_icmp_le (tgt := 47) hx hb dX0_putKernel_24 (by decide) (fun c_24 => ?_) (fun c_24 => ?_)
      · have c_24 : kl (a - 1) ≤ nI t := by have h3 := c_24; rw [movF_lo kl (by omega)] at h3; exact h3
        refine lv_aload_n hx hb dX0_putKernel_47 rfl (lv_at hl 0 rfl) ?_
        refine va_get (D := D) (ci := 0) (v := .ref (q 4)) (C := RX0) (T := TX0) (N := 11) hx hb hts in_X0 hown hK hP 0 rfl rfl 3 (by decide) (hts _ q39) (fun _ h9 => h9) rfl dX0_putKernel_48 ?_
        refine lv_iload_n hx hb dX0_putKernel_51 rfl (lv_at hl 2 rfl) ?_
        refine lv_iload_n hx hb dX0_putKernel_52 rfl (lv_at hl 1 rfl) ?_
        refine g_iast hx hb hK hP (x_D hq) hS 4 3 rfl rfl (k := a) (by omega) (by decide) dX0_putKernel_53 (fun H locs hP hS => ?_)
        have hP : va_P D vwCl (xw q d w pr dr (upd (movF kl a z) a (nI t)) fl wt (nI c) ds (nI z) fc sv) H := hP
        refine lv_aload_n hx hb dX0_putKernel_54 rfl (lv_at hl 0 rfl) ?_
        refine lv_dup hx hb dX0_putKernel_55 rfl ?_
        refine va_get (D := D) (ci := 0) (v := .int (nI z)) (C := RX0) (T := TX0) (N := 11) hx hb hts in_X0 hown hK hP 0 rfl rfl 8 (by decide) (hts _ q44) (fun _ h9 => h9) rfl dX0_putKernel_56 ?_
        refine lv_iconst (v := 1) hx hb dX0_putKernel_59 (by decide) ?_
        refine lv_iadd hx hb dX0_putKernel_60 ?_
        refine g_tw (y := nI (z + 1)) (nI_1 z) ?_
        refine va_put (D := D) (ci := 0) (v := .int (nI (z + 1))) (ty := .int) (C := RX0) (T := TX0) (N := 11) hx hb hts in_X0 tyX0 tyX0_ok nmX0 hown hK hP (x_D hq) hS 0 rfl rfl 8 (by decide) (hts _ q44) (fun _ h9 => h9) rfl (by decide +kernel) rfl rfl (Nat.le_of_ble_eq_true rfl) dX0_putKernel_61 (fun H locs hP hD hS => ?_)
        have hP : va_P D vwCl (xw q d w pr dr (upd (movF kl a z) a (nI t)) fl wt (nI c) ds (nI (z + 1)) fc sv) H := hP
        exact g_retv (w, pr, dr, upd (movF kl a z) a (nI t), fl, wt, nI c, ds, nI (z + 1), fc, sv) hx hb hr hlocks hP hS (⟨a, haz, hg, Or.inr c_24, rfl⟩) dX0_putKernel_64
      · refine lv_aload_n hx hb dX0_putKernel_27 rfl (lv_at hl 0 rfl) ?_
        refine va_get (D := D) (ci := 0) (v := .ref (q 4)) (C := RX0) (T := TX0) (N := 11) hx hb hts in_X0 hown hK hP 0 rfl rfl 3 (by decide) (hts _ q39) (fun _ h9 => h9) rfl dX0_putKernel_28 ?_
        refine lv_iload_n hx hb dX0_putKernel_31 rfl (lv_at hl 2 rfl) ?_
        refine lv_aload_n hx hb dX0_putKernel_32 rfl (lv_at hl 0 rfl) ?_
        refine va_get (D := D) (ci := 0) (v := .ref (q 4)) (C := RX0) (T := TX0) (N := 11) hx hb hts in_X0 hown hK hP 0 rfl rfl 3 (by decide) (hts _ q39) (fun _ h9 => h9) rfl dX0_putKernel_33 ?_
        refine lv_iload_n hx hb dX0_putKernel_36 rfl (lv_at hl 2 rfl) ?_
        refine lv_iconst (v := 1) hx hb dX0_putKernel_37 (by decide) ?_
        refine lv_isub hx hb dX0_putKernel_38 ?_
        refine g_tw (y := nI (a - 1)) (nI_m1 ha0) ?_
        refine g_iald hx hb hK hP 4 3 rfl rfl (k := (a - 1)) (by omega) (by decide) dX0_putKernel_39 ?_
        refine g_iast hx hb hK hP (x_D hq) hS 4 3 rfl rfl (k := a) (by omega) (by decide) dX0_putKernel_40 (fun H locs hP hS => ?_)
        have hP : va_P D vwCl (xw q d w pr dr (upd (movF kl a z) a ((movF kl a z) (a - 1))) fl wt (nI c) ds (nI z) fc sv) H := hP
        have hP : va_P D vwCl (xw q d w pr dr (movF kl (a - 1) z) fl wt (nI c) ds (nI z) fc sv) H := by rw [← movF_s kl ha0 haz]; exact hP
        refine lv_iinc (v := nI (a - 1)) (lv' := [(2, .int (nI (a - 1))), (0, .ref (q 0)), (1, .int (nI t))]) hx hb dX0_putKernel_41 hl (k := 2) rfl (dec1 ha0) (by decide) rfl (fun ls hl => ?_)
        refine lv_goto (tgt := 5) hx hb dX0_putKernel_44 (by decide) ?_
        exact ih (a - 1) _ _ _ (by omega) ⟨(a - 1), rfl, by omega, fun i h1 h2 => by rcases Nat.lt_or_ge i a with r | r; (have e : i = a - 1 := by omega); (subst e; have h3 := c_24; rw [movF_lo kl (by omega)] at h3; exact Int32.not_le.mp h3); exact hg i r h2, hP, hS, lv_sub hl [1, 2, 0] rfl⟩

set_option maxHeartbeats 4000000 in
theorem mX0_putFix (l : Launch) (D : va_G) (q : Nat → Nat) (d : Nat → ClassId) (w : Nat → Int32) (pr : Nat → Int32) (dr : Nat → Int32) (kl : Nat → Int32) (fl : Nat → Int32) (wt : Nat → Int32) (c : Nat) (ds : Int32) (kc : Int32) (z : Nat) (sv : Int32) (t : Nat) (hq : gJ 7 q) (hz : z ≤ 125) : Met l yX0_putFix (ws_ yX0_putFix cX0_putFix 3 none) ({ frames := 0, cells := 0, slots := 0, locals := 0 } : Room) (gPc D (xw q d w pr dr kl fl wt (nI c) ds kc (nI z) sv) (xt d) [.ref (q 0), .int (nI t)]) (gQv D (xwS q d) (fun (u : XS) => ∃ a, a ≤ z ∧ (∀ i, a ≤ i → i < z → nI t < fl i) ∧ (a = 0 ∨ fl (a - 1) ≤ nI t) ∧ u = (w, pr, dr, kl, upd (movF fl a z) a (nI t), wt, nI c, ds, kc, nI (z + 1), sv)) (gA 7 q)) 0 0 (gA 7 q) := by
  refine g_met (by decide) (Nat.le_of_ble_eq_true rfl) ?_
  intro p e s m below meth cd hx hb hr hml hown hts hlocks hname hP hK ls hl
  have hown : s.vm.findClass RX0 = some m.cls := hown
  have hl : lv_has ls 3 [(0, .ref (q 0)), (1, .int (nI t))] := hl
  have hS : va_S (gA 7 q) s.heap s.heap [] := va_S.rf
  refine lv_aload_n hx hb dX0_putFix_0 rfl (lv_at hl 0 rfl) ?_
  refine va_get (D := D) (ci := 0) (v := .int (nI z)) (C := RX0) (T := TX0) (N := 11) hx hb hts in_X0 hown hK hP 0 rfl rfl 9 (by decide) (hts _ q45) (fun _ h9 => h9) rfl dX0_putFix_1 ?_
  have hP : va_P D vwCl (xw q d w pr dr kl (movF fl z z) wt (nI c) ds kc (nI z) sv) s.heap := by rw [movF_0]; exact hP
  refine lv_istore_n (lv' := [(2, .int (nI z)), (0, .ref (q 0)), (1, .int (nI t))]) hx hb dX0_putFix_4 rfl hl (by decide) rfl (fun ls hl => ?_)
  refine g_loopH (pc := 5) (P := fun n H locs ls => ∃ (a : Nat), (n = a) ∧ (a ≤ z) ∧ (∀ i, a ≤ i → i < z → nI t < fl i) ∧ va_P D vwCl (xw q d w pr dr kl (movF fl a z) wt (nI c) ds kc (nI z) sv) H ∧ va_S (gA 7 q) s.heap H locs ∧ lv_has ls 3 [(0, .ref (q 0)), (1, .int (nI t)), (2, .int (nI a))]) ?_ (z) _ _ _ ⟨z, rfl, Nat.le_refl z, fun i h1 h2 => by omega, hP, hS, lv_sub hl [1, 2, 0] rfl⟩
  intro n H locs ls hh ih
  obtain ⟨a, hn, haz, hg, hP, hS, hl⟩ := hh
  refine lv_iload_n hx hb dX0_putFix_5 rfl (lv_at hl 2 rfl) ?_
  refine lv_if_le (tgt := 47) hx hb dX0_putFix_6 (by decide) (fun c_6 => ?_) (fun c_6 => ?_)
  · have ha0 : a = 0 := by rcases Nat.eq_zero_or_pos a with r | r; exact r; exact absurd c_6 (nI_nle r (by omega))
    refine lv_aload_n hx hb dX0_putFix_47 rfl (lv_at hl 0 rfl) ?_
    refine va_get (D := D) (ci := 0) (v := .ref (q 5)) (C := RX0) (T := TX0) (N := 11) hx hb hts in_X0 hown hK hP 0 rfl rfl 4 (by decide) (hts _ q40) (fun _ h9 => h9) rfl dX0_putFix_48 ?_
    refine lv_iload_n hx hb dX0_putFix_51 rfl (lv_at hl 2 rfl) ?_
    refine lv_iload_n hx hb dX0_putFix_52 rfl (lv_at hl 1 rfl) ?_
    refine g_iast hx hb hK hP (x_D hq) hS 5 4 rfl rfl (k := a) (by omega) (by decide) dX0_putFix_53 (fun H locs hP hS => ?_)
    have hP : va_P D vwCl (xw q d w pr dr kl (upd (movF fl a z) a (nI t)) wt (nI c) ds kc (nI z) sv) H := hP
    refine lv_aload_n hx hb dX0_putFix_54 rfl (lv_at hl 0 rfl) ?_
    refine lv_dup hx hb dX0_putFix_55 rfl ?_
    refine va_get (D := D) (ci := 0) (v := .int (nI z)) (C := RX0) (T := TX0) (N := 11) hx hb hts in_X0 hown hK hP 0 rfl rfl 9 (by decide) (hts _ q45) (fun _ h9 => h9) rfl dX0_putFix_56 ?_
    refine lv_iconst (v := 1) hx hb dX0_putFix_59 (by decide) ?_
    refine lv_iadd hx hb dX0_putFix_60 ?_
    refine g_tw (y := nI (z + 1)) (nI_1 z) ?_
    refine va_put (D := D) (ci := 0) (v := .int (nI (z + 1))) (ty := .int) (C := RX0) (T := TX0) (N := 11) hx hb hts in_X0 tyX0 tyX0_ok nmX0 hown hK hP (x_D hq) hS 0 rfl rfl 9 (by decide) (hts _ q45) (fun _ h9 => h9) rfl (by decide +kernel) rfl rfl (Nat.le_of_ble_eq_true rfl) dX0_putFix_61 (fun H locs hP hD hS => ?_)
    have hP : va_P D vwCl (xw q d w pr dr kl (upd (movF fl a z) a (nI t)) wt (nI c) ds kc (nI (z + 1)) sv) H := hP
    exact g_retv (w, pr, dr, kl, upd (movF fl a z) a (nI t), wt, nI c, ds, kc, nI (z + 1), sv) hx hb hr hlocks hP hS (⟨a, haz, hg, Or.inl ha0, rfl⟩) dX0_putFix_64
  · have ha0 : 0 < a := by rcases Nat.eq_zero_or_pos a with r | r; exact absurd (by rw [r]; decide) c_6; exact r
    refine lv_iload_n hx hb dX0_putFix_9 rfl (lv_at hl 2 rfl) ?_
    refine lv_bipush (v := 126) hx hb dX0_putFix_10 (by decide) ?_
    refine lv_icmp_ge (tgt := 47) hx hb dX0_putFix_12 (by decide) (fun c_12 => ?_) (fun c_12 => ?_)
    · exact absurd c_12 (nI_ge (b := 126) (by omega) (by decide))
    · refine lv_aload_n hx hb dX0_putFix_15 rfl (lv_at hl 0 rfl) ?_
      refine va_get (D := D) (ci := 0) (v := .ref (q 5)) (C := RX0) (T := TX0) (N := 11) hx hb hts in_X0 hown hK hP 0 rfl rfl 4 (by decide) (hts _ q40) (fun _ h9 => h9) rfl dX0_putFix_16 ?_
      refine lv_iload_n hx hb dX0_putFix_19 rfl (lv_at hl 2 rfl) ?_
      refine lv_iconst (v := 1) hx hb dX0_putFix_20 (by decide) ?_
      refine lv_isub hx hb dX0_putFix_21 ?_
      refine g_tw (y := nI (a - 1)) (nI_m1 ha0) ?_
      refine g_iald hx hb hK hP 5 4 rfl rfl (k := (a - 1)) (by omega) (by decide) dX0_putFix_22 ?_
      refine lv_iload_n hx hb dX0_putFix_23 rfl (lv_at hl 1 rfl) ?_
      refine lv_icmp_le (tgt := 47) hx hb dX0_putFix_24 (by decide) (fun c_24 => ?_) (fun c_24 => ?_)
      · have c_24 : fl (a - 1) ≤ nI t := by have h3 := c_24; rw [movF_lo fl (by omega)] at h3; exact h3
        refine lv_aload_n hx hb dX0_putFix_47 rfl (lv_at hl 0 rfl) ?_
        refine va_get (D := D) (ci := 0) (v := .ref (q 5)) (C := RX0) (T := TX0) (N := 11) hx hb hts in_X0 hown hK hP 0 rfl rfl 4 (by decide) (hts _ q40) (fun _ h9 => h9) rfl dX0_putFix_48 ?_
        refine lv_iload_n hx hb dX0_putFix_51 rfl (lv_at hl 2 rfl) ?_
        refine lv_iload_n hx hb dX0_putFix_52 rfl (lv_at hl 1 rfl) ?_
        refine g_iast hx hb hK hP (x_D hq) hS 5 4 rfl rfl (k := a) (by omega) (by decide) dX0_putFix_53 (fun H locs hP hS => ?_)
        have hP : va_P D vwCl (xw q d w pr dr kl (upd (movF fl a z) a (nI t)) wt (nI c) ds kc (nI z) sv) H := hP
        refine lv_aload_n hx hb dX0_putFix_54 rfl (lv_at hl 0 rfl) ?_
        refine lv_dup hx hb dX0_putFix_55 rfl ?_
        refine va_get (D := D) (ci := 0) (v := .int (nI z)) (C := RX0) (T := TX0) (N := 11) hx hb hts in_X0 hown hK hP 0 rfl rfl 9 (by decide) (hts _ q45) (fun _ h9 => h9) rfl dX0_putFix_56 ?_
        refine lv_iconst (v := 1) hx hb dX0_putFix_59 (by decide) ?_
        refine lv_iadd hx hb dX0_putFix_60 ?_
        refine g_tw (y := nI (z + 1)) (nI_1 z) ?_
        refine va_put (D := D) (ci := 0) (v := .int (nI (z + 1))) (ty := .int) (C := RX0) (T := TX0) (N := 11) hx hb hts in_X0 tyX0 tyX0_ok nmX0 hown hK hP (x_D hq) hS 0 rfl rfl 9 (by decide) (hts _ q45) (fun _ h9 => h9) rfl (by decide +kernel) rfl rfl (Nat.le_of_ble_eq_true rfl) dX0_putFix_61 (fun H locs hP hD hS => ?_)
        have hP : va_P D vwCl (xw q d w pr dr kl (upd (movF fl a z) a (nI t)) wt (nI c) ds kc (nI (z + 1)) sv) H := hP
        exact g_retv (w, pr, dr, kl, upd (movF fl a z) a (nI t), wt, nI c, ds, kc, nI (z + 1), sv) hx hb hr hlocks hP hS (⟨a, haz, hg, Or.inr c_24, rfl⟩) dX0_putFix_64
      · refine lv_aload_n hx hb dX0_putFix_27 rfl (lv_at hl 0 rfl) ?_
        refine va_get (D := D) (ci := 0) (v := .ref (q 5)) (C := RX0) (T := TX0) (N := 11) hx hb hts in_X0 hown hK hP 0 rfl rfl 4 (by decide) (hts _ q40) (fun _ h9 => h9) rfl dX0_putFix_28 ?_
        refine lv_iload_n hx hb dX0_putFix_31 rfl (lv_at hl 2 rfl) ?_
        refine lv_aload_n hx hb dX0_putFix_32 rfl (lv_at hl 0 rfl) ?_
        refine va_get (D := D) (ci := 0) (v := .ref (q 5)) (C := RX0) (T := TX0) (N := 11) hx hb hts in_X0 hown hK hP 0 rfl rfl 4 (by decide) (hts _ q40) (fun _ h9 => h9) rfl dX0_putFix_33 ?_
        refine lv_iload_n hx hb dX0_putFix_36 rfl (lv_at hl 2 rfl) ?_
        refine lv_iconst (v := 1) hx hb dX0_putFix_37 (by decide) ?_
        refine lv_isub hx hb dX0_putFix_38 ?_
        refine g_tw (y := nI (a - 1)) (nI_m1 ha0) ?_
        refine g_iald hx hb hK hP 5 4 rfl rfl (k := (a - 1)) (by omega) (by decide) dX0_putFix_39 ?_
        refine g_iast hx hb hK hP (x_D hq) hS 5 4 rfl rfl (k := a) (by omega) (by decide) dX0_putFix_40 (fun H locs hP hS => ?_)
        have hP : va_P D vwCl (xw q d w pr dr kl (upd (movF fl a z) a ((movF fl a z) (a - 1))) wt (nI c) ds kc (nI z) sv) H := hP
        have hP : va_P D vwCl (xw q d w pr dr kl (movF fl (a - 1) z) wt (nI c) ds kc (nI z) sv) H := by rw [← movF_s fl ha0 haz]; exact hP
        refine lv_iinc (v := nI (a - 1)) (lv' := [(2, .int (nI (a - 1))), (0, .ref (q 0)), (1, .int (nI t))]) hx hb dX0_putFix_41 hl (k := 2) rfl (dec1 ha0) (by decide) rfl (fun ls hl => ?_)
        refine lv_goto (tgt := 5) hx hb dX0_putFix_44 (by decide) ?_
        exact ih (a - 1) _ _ _ (by omega) ⟨(a - 1), rfl, by omega, fun i h1 h2 => by rcases Nat.lt_or_ge i a with r | r; (have e : i = a - 1 := by omega); (subst e; have h3 := c_24; rw [movF_lo fl (by omega)] at h3; exact Int32.not_le.mp h3); exact hg i r h2, hP, hS, lv_sub hl [1, 2, 0] rfl⟩
end
section
/-! rows on the two lists -/
set_option maxRecDepth 100000
theorem mem_lt {P : Nat → Bool} {N x : Nat} (h : x ∈ (List.range N).filter P) : x < N := List.mem_range.mp (List.mem_filter.mp h).1
theorem lst_yes {P : Nat → Bool} {N t k : Nat} {f : Nat → Int32} (hL : Lst f ((List.range N).filter P)) (hN : N ≤ 512) (ht : t < N) (hk : k < ((List.range N).filter P).length) (e : f k = nI t) : P t = true := by
  have hm := getD_mem hk
  have hlt := mem_lt hm
  rw [hL k hk, nI_eq (by omega) (by omega)] at e
  rw [e] at hm
  exact (List.mem_filter.mp hm).2
theorem lst_no {P : Nat → Bool} {N t : Nat} {f : Nat → Int32} (hL : Lst f ((List.range N).filter P)) (hN : N ≤ 512) (ht : t < N) (h : ∀ i, i < ((List.range N).filter P).length → ¬ f i = nI t) : P t = false := by
  cases e : P t
  · rfl
  · obtain ⟨i, hi, ei⟩ := mem_getD (List.mem_filter.mpr ⟨List.mem_range.mpr ht, e⟩)
    exact absurd (by rw [hL i hi, ei]) (h i hi)
end
section
/-! solve and the questions of ConflictSets: rows printed by gen/m_c.py -/
set_option maxRecDepth 100000

set_option maxHeartbeats 4000000 in
theorem mX0_solve (l : Launch) (D : va_G) (q : Nat → Nat) (d : Nat → ClassId) (w : Nat → Int32) (pr : Nat → Int32) (dr : Nat → Int32) (kl : Nat → Int32) (fl : Nat → Int32) (wt : Nat → Int32) (c : Nat) (ds : Int32) (kc : Int32) (fc : Int32) (sv : Int32) (hq : gJ 7 q) (hc9 : c ≤ 9) (hsv : sv = 0 ∨ (sv = 1 ∧ ∃ y z, kc = nI y ∧ fc = nI z ∧ XSol w c kl fl y z)) : Met l yX0_solve (ws_ yX0_solve cX0_solve 4 none) ({ frames := 2, cells := 0, slots := 0, locals := 48 } : Room) (gPc D (xw q d w pr dr kl fl wt (nI c) ds kc fc sv) (xt d) [.ref (q 0)]) (gQv D (xwS q d) (fun (u : XS) => ∃ (kl1 fl1 wt1 : Nat → Int32) (y z : Nat), u = (w, pr, dr, kl1, fl1, wt1, nI c, ds, nI y, nI z, 1) ∧ XSol w c kl1 fl1 y z) (gA 7 q)) 0 0 (gA 7 q) := by
  refine g_met (by decide) (Nat.le_of_ble_eq_true rfl) ?_
  intro p e s m below meth cd hx hb hr hml hown hts hlocks hname hP hK ls hl
  have hown : s.vm.findClass RX0 = some m.cls := hown
  have hl : lv_has ls 4 [(0, .ref (q 0))] := hl
  have hS : va_S (gA 7 q) s.heap s.heap [] := va_S.rf
  have h512 := pow9 hc9
  have hm := okB_mono (w := w) hc9
  have hp0 := Nat.two_pow_pos c
  refine lv_aload_n hx hb dX0_solve_0 rfl (lv_at hl 0 rfl) ?_
  refine va_get (D := D) (ci := 0) (v := .int sv) (C := RX0) (T := TX0) (N := 11) hx hb hts in_X0 hown hK hP 0 rfl rfl 10 (by decide) (hts _ q46) (fun _ h9 => h9) rfl dX0_solve_1 ?_
  refine lv_if_eq (tgt := 8) hx hb dX0_solve_4 (by decide) (fun c_4 => ?_) (fun c_4 => ?_)
  · refine lv_aload_n hx hb dX0_solve_8 rfl (lv_at hl 0 rfl) ?_
    refine lv_iconst (v := 1) hx hb dX0_solve_9 (by decide) ?_
    refine va_put (D := D) (ci := 0) (v := .int 1) (ty := .boolean) (C := RX0) (T := TX0) (N := 11) hx hb hts in_X0 tyX0 tyX0_ok nmX0 hown hK hP (x_D hq) hS 0 rfl rfl 10 (by decide) (hts _ q46) (fun _ h9 => h9) rfl (by decide +kernel) rfl rfl (Nat.le_of_ble_eq_true rfl) dX0_solve_10 (fun H locs hP hD hS => ?_)
    have hP : va_P D vwCl (xw q d w pr dr kl fl wt (nI c) ds kc fc 1) H := hP
    refine lv_aload_n hx hb dX0_solve_13 rfl (lv_at hl 0 rfl) ?_
    refine lv_iconst (v := 0) hx hb dX0_solve_14 (by decide) ?_
    refine g_tw (y := nI 0) (nI_0.symm) ?_
    refine va_put (D := D) (ci := 0) (v := .int (nI 0)) (ty := .int) (C := RX0) (T := TX0) (N := 11) hx hb hts in_X0 tyX0 tyX0_ok nmX0 hown hK hP (x_D hq) hS 0 rfl rfl 8 (by decide) (hts _ q44) (fun _ h9 => h9) rfl (by decide +kernel) rfl rfl (Nat.le_of_ble_eq_true rfl) dX0_solve_15 (fun H locs hP hD hS => ?_)
    have hP : va_P D vwCl (xw q d w pr dr kl fl wt (nI c) ds (nI 0) fc 1) H := hP
    refine lv_aload_n hx hb dX0_solve_18 rfl (lv_at hl 0 rfl) ?_
    refine lv_iconst (v := 0) hx hb dX0_solve_19 (by decide) ?_
    refine g_tw (y := nI 0) (nI_0.symm) ?_
    refine va_put (D := D) (ci := 0) (v := .int (nI 0)) (ty := .int) (C := RX0) (T := TX0) (N := 11) hx hb hts in_X0 tyX0 tyX0_ok nmX0 hown hK hP (x_D hq) hS 0 rfl rfl 9 (by decide) (hts _ q45) (fun _ h9 => h9) rfl (by decide +kernel) rfl rfl (Nat.le_of_ble_eq_true rfl) dX0_solve_20 (fun H locs hP hD hS => ?_)
    have hP : va_P D vwCl (xw q d w pr dr kl fl wt (nI c) ds (nI 0) (nI 0) 1) H := hP
    refine lv_iconst (v := 0) hx hb dX0_solve_23 (by decide) ?_
    refine lv_istore_n (lv' := [(1, .int 0), (0, .ref (q 0))]) hx hb dX0_solve_24 rfl hl (by decide) rfl (fun ls hl => ?_)
    refine g_loopH (pc := 25) (P := fun n H locs ls => ∃ (k : Nat) (f : Nat → Int32), (k + n = 16) ∧ (∀ j, j < k → f j = -1) ∧ va_P D vwCl (xw q d w pr dr kl fl f (nI c) ds (nI 0) (nI 0) 1) H ∧ va_S (gA 7 q) s.heap H locs ∧ lv_has ls 4 [(0, .ref (q 0)), (1, .int (nI k))]) ?_ (16) _ _ _ ⟨0, wt, Nat.zero_add _, fun j h => absurd h (Nat.not_lt_zero j), hP, hS, lv_sub hl [1, 0] rfl⟩
    intro n H locs ls hh ih
    obtain ⟨k, f, hk, hf, hP, hS, hl⟩ := hh
    refine lv_iload_n hx hb dX0_solve_25 rfl (lv_at hl 1 rfl) ?_
    refine lv_bipush (v := 16) hx hb dX0_solve_26 (by decide) ?_
    refine lv_icmp_ge (tgt := 44) hx hb dX0_solve_28 (by decide) (fun c_28 => ?_) (fun c_28 => ?_)
    · have hkc : k = 16 := c_eq (by omega) (by omega) c_28
      have hf : ∀ j, j < 16 → f j = -1 := fun j hj => hf j (by omega)
      refine lv_iconst (v := 1) hx hb dX0_solve_44 (by decide) ?_
      refine lv_aload_n hx hb dX0_solve_45 rfl (lv_at hl 0 rfl) ?_
      refine va_get (D := D) (ci := 0) (v := .int (nI c)) (C := RX0) (T := TX0) (N := 11) hx hb hts in_X0 hown hK hP 0 rfl rfl 6 (by decide) (hts _ q42) (fun _ h9 => h9) rfl dX0_solve_46 ?_
      refine lv_ishl hx hb dX0_solve_49 ?_
      refine lv_iconst (v := 1) hx hb dX0_solve_50 (by decide) ?_
      refine lv_isub hx hb dX0_solve_51 ?_
      refine g_tw (y := nI (2 ^ c - 1)) (all_I hc9) ?_
      refine lv_istore_n (lv' := [(1, .int (nI (2 ^ c - 1))), (0, .ref (q 0))]) hx hb dX0_solve_52 rfl hl (by decide) rfl (fun ls hl => ?_)
      refine lv_iload_n hx hb dX0_solve_53 rfl (lv_at hl 0 rfl) ?_
      refine lv_istore_n (lv' := [(2, .int (nI (2 ^ c - 1))), (1, .int (nI (2 ^ c - 1))), (0, .ref (q 0))]) hx hb dX0_solve_54 rfl hl (by decide) rfl (fun ls hl => ?_)
      refine g_loopH (pc := 55) (P := fun n H locs ls => ∃ (v : Nat) (x : Int32) (kf : Nat → Int32) (ff : Nat → Int32) (f : Nat → Int32) (g : Nat → Nat) (h : Nat → Nat) (y : Nat) (z : Nat), (n = v) ∧ (v ≤ 2 ^ c) ∧ (x = nI v - 1) ∧ (SInv (okB w c) c kf ff f g h y z v) ∧ va_P D vwCl (xw q d w pr dr kf ff f (nI c) ds (nI y) (nI z) 1) H ∧ va_S (gA 7 q) s.heap H locs ∧ lv_has ls 4 [(0, .ref (q 0)), (1, .int (nI (2 ^ c - 1))), (2, .int x)]) ?_ (2 ^ c) _ _ _ ⟨(2 ^ c), nI (2 ^ c - 1), kl, fl, f, (fun _ => 0), (fun _ => 0), 0, 0, rfl, Nat.le_refl _, (nI_m1 hp0).symm, SInv_init _ hc9 kl fl hf, hP, hS, lv_sub hl [2, 1, 0] rfl⟩
      intro n H locs ls hh ih
      obtain ⟨v, x, kf, ff, f, g, h, y, z, hn, hv, ex, hI, hP, hS, hl⟩ := hh
      refine lv_iload_n hx hb dX0_solve_55 rfl (lv_at hl 2 rfl) ?_
      refine lv_if_lt (tgt := 122) hx hb dX0_solve_56 (by decide) (fun c_56 => ?_) (fun c_56 => ?_)
      · have hv0 : v = 0 := v_neg (by omega) (by rw [← ex]; exact c_56)
        have hI : SInv (okB w c) c kf ff f g h y z 0 := by rw [← hv0]; exact hI
        exact g_retv (w, pr, dr, kf, ff, f, nI c, ds, nI y, nI z, 1) hx hb hr hlocks hP hS (⟨kf, ff, f, y, z, rfl, SInv_done hc9 hI⟩) dX0_solve_122
      · have hv0 : 0 < v := v_pos (by rw [← ex]; exact c_56)
        have exv : x = nI (v - 1) := by rw [ex]; exact nI_m1 hv0
        have hv1 : v - 1 < 2 ^ c := by omega
        have hI : SInv (okB w c) c kf ff f g h y z (v - 1 + 1) := by rw [show v - 1 + 1 = v by omega]; exact hI
        refine lv_aload_n hx hb dX0_solve_59 rfl (lv_at hl 0 rfl) ?_
        refine lv_iload_n hx hb dX0_solve_60 rfl (lv_at hl 2 rfl) ?_
        refine g_tw (y := nI (v - 1)) (exv) ?_
        refine g_callR (W.runV (As := [.int (nI (v - 1))]) (rest := []) ⟨hx, hb, hml, hown, hts⟩ (mX0_waits l D q d w pr dr kf ff f c ds (nI y) (nI z) 1 (v - 1) (by omega)) (cwV 1 hts (lw_V q126 q128 qs4 q26 q129) rfl rfl rfl (by decide +kernel) ⟨Nat.le_of_ble_eq_true rfl, Nat.le_of_ble_eq_true rfl⟩) (x_preV _ hK hP) rfl rfl hl.1 rfl (lv_room (Nat.le_of_ble_eq_true rfl)) dX0_solve_61 ⟨Nat.le_of_ble_eq_true rfl, Nat.le_of_ble_eq_true rfl⟩) ?_
        refine lv_if_eq (tgt := 116) hx hb dX0_solve_64 (by decide) (fun c_64 => ?_) (fun c_64 => ?_)
        · have hwt : wtB f (v - 1) = false := b2i_0.mp c_64
          refine lv_iinc (v := (x + (-1))) (lv' := [(2, .int (x + (-1))), (0, .ref (q 0)), (1, .int (nI (2 ^ c - 1)))]) hx hb dX0_solve_116 hl (k := 2) rfl (rfl) (by decide) rfl (fun ls hl => ?_)
          refine lv_goto (tgt := 55) hx hb dX0_solve_119 (by decide) ?_
          exact ih (v - 1) _ _ _ (by omega) ⟨(v - 1), (x + (-1)), kf, ff, f, g, h, y, z, rfl, by omega, by rw [exv]; exact i_add_m1 _, SInv_skip hI hwt, hP, hS, lv_sub hl [1, 2, 0] rfl⟩
        · have hwt : wtB f (v - 1) = true := by cases hh : wtB f (v - 1); exact absurd (by rw [hh]; rfl) c_64; rfl
          refine lv_aload_n hx hb dX0_solve_67 rfl (lv_at hl 0 rfl) ?_
          refine lv_iload_n hx hb dX0_solve_68 rfl (lv_at hl 2 rfl) ?_
          refine g_tw (y := nI (v - 1)) (exv) ?_
          refine g_callR (W.runV (As := [.int (nI (v - 1))]) (rest := []) ⟨hx, hb, hml, hown, hts⟩ (mX0_common l D q d w pr dr kf ff f c ds (nI y) (nI z) 1 (nI (v - 1)) hc9) (cwV 1 hts (lw_V q110 q112 qs2 q26 q113) rfl rfl rfl (by decide +kernel) ⟨Nat.le_of_ble_eq_true rfl, Nat.le_of_ble_eq_true rfl⟩) (x_preV _ hK hP) rfl rfl hl.1 rfl (lv_room (Nat.le_of_ble_eq_true rfl)) dX0_solve_69 ⟨Nat.le_of_ble_eq_true rfl, Nat.le_of_ble_eq_true rfl⟩) ?_
          refine lv_if_eq (tgt := 99) hx hb dX0_solve_72 (by decide) (fun c_72 => ?_) (fun c_72 => ?_)
          · have hok := okB_f c_72
            obtain ⟨hnew, hy5, hs5⟩ := S_ker hc9 hm hI hv1 hwt hok
            refine lv_aload_n hx hb dX0_solve_99 rfl (lv_at hl 0 rfl) ?_
            refine lv_iload_n hx hb dX0_solve_100 rfl (lv_at hl 2 rfl) ?_
            refine g_tw (y := nI (v - 1)) (exv) ?_
            refine g_callR (W.runV (As := [.int (nI (v - 1))]) (rest := []) ⟨hx, hb, hml, hown, hts⟩ (mX0_shrink l D q d w pr dr kf ff f c ds (nI y) (nI z) 1 (v - 1) hc9) (cwV 1 hts (lw_V q146 q148 qs9 q26 q149) rfl rfl rfl (by decide +kernel) ⟨Nat.le_of_ble_eq_true rfl, Nat.le_of_ble_eq_true rfl⟩) (x_preV _ hK hP) rfl rfl hl.1 rfl (lv_room (Nat.le_of_ble_eq_true rfl)) dX0_solve_101 ⟨Nat.le_of_ble_eq_true rfl, Nat.le_of_ble_eq_true rfl⟩) ?_
            refine lv_istore_n (lv' := [(3, .int (nI (shrN (okB w c) (v - 1) c))), (0, .ref (q 0)), (1, .int (nI (2 ^ c - 1))), (2, .int x)]) hx hb dX0_solve_104 rfl hl (by decide) rfl (fun ls hl => ?_)
            refine lv_aload_n hx hb dX0_solve_105 rfl (lv_at hl 1 rfl) ?_
            refine lv_iload_n hx hb dX0_solve_106 rfl (lv_at hl 0 rfl) ?_
            refine g_callv (va_runV (As := [.int (nI (shrN (okB w c) (v - 1) c))]) (rest := []) ⟨hx, hb, hml, hown, hts⟩ (mX0_putKernel l D q d w pr dr kf ff f c ds y (nI z) 1 (shrN (okB w c) (v - 1) c) hq hy5) (cwV 1 hts (lw_V q150 q152 qs10 q26 q153) rfl rfl rfl (by decide +kernel) ⟨Nat.le_of_ble_eq_true rfl, Nat.le_of_ble_eq_true rfl⟩) (x_preV _ hK hP) rfl rfl hl.1 rfl (lv_room (Nat.le_of_ble_eq_true rfl)) dX0_solve_107 ⟨Nat.le_of_ble_eq_true rfl, Nat.le_of_ble_eq_true rfl⟩) hS (fun u H locs hu hP hS => ?_)
            obtain ⟨a, ha, a1, a2, rfl⟩ := hu
            have hP : va_P D vwCl (xw q d w pr dr (upd (movF kf a y) a (nI (shrN (okB w c) (v - 1) c))) ff f (nI c) ds (nI (y + 1)) (nI z) 1) H := hP
            refine lv_aload_n hx hb dX0_solve_110 rfl (lv_at hl 1 rfl) ?_
            refine lv_iload_n hx hb dX0_solve_111 rfl (lv_at hl 0 rfl) ?_
            refine lv_iload_n hx hb dX0_solve_112 rfl (lv_at hl 2 rfl) ?_
            refine g_callv (va_runV (As := [.int (nI (shrN (okB w c) (v - 1) c)), .int (nI (2 ^ c - 1))]) (rest := []) ⟨hx, hb, hml, hown, hts⟩ (mX0_takeAround l D q d w pr dr (upd (movF kf a y) a (nI (shrN (okB w c) (v - 1) c))) ff f c ds (nI (y + 1)) (nI z) 1 (shrN (okB w c) (v - 1) c) (2 ^ c - 1) hq (by omega) (by omega)) (cwV 2 hts (lw_V q154 q156 qs11 q26 q157) rfl rfl rfl (by decide +kernel) ⟨Nat.le_of_ble_eq_true rfl, Nat.le_of_ble_eq_true rfl⟩) (x_preV _ hK hP) rfl rfl hl.1 rfl (lv_room (Nat.le_of_ble_eq_true rfl)) dX0_solve_113 ⟨Nat.le_of_ble_eq_true rfl, Nat.le_of_ble_eq_true rfl⟩) hS (fun u H locs hu hP hS => ?_)
            obtain ⟨f1, rfl, hf1⟩ := hu
            have hP : va_P D vwCl (xw q d w pr dr (upd (movF kf a y) a (nI (shrN (okB w c) (v - 1) c))) ff f1 (nI c) ds (nI (y + 1)) (nI z) 1) H := hP
            refine lv_iinc (v := (x + (-1))) (lv' := [(2, .int (x + (-1))), (3, .int (nI (shrN (okB w c) (v - 1) c))), (0, .ref (q 0)), (1, .int (nI (2 ^ c - 1)))]) hx hb dX0_solve_116 hl (k := 3) rfl (rfl) (by decide) rfl (fun ls hl => ?_)
            refine lv_goto (tgt := 55) hx hb dX0_solve_119 (by decide) ?_
            exact ih (v - 1) _ _ _ (by omega) ⟨(v - 1), (x + (-1)), upd (movF kf a y) a (nI (shrN (okB w c) (v - 1) c)), ff, f1, (insN g a (shrN (okB w c) (v - 1) c)), h, (y + 1), z, rfl, by omega, by rw [exv]; exact i_add_m1 _, SInv_ker hc9 hm hI hv1 hwt hok ha a1 a2 hf1, hP, hS, lv_sub hl [2, 3, 0] rfl⟩
          · have hok := okB_t c_72
            obtain ⟨hnew, hz5⟩ := S_cor hc9 hm hI hv1 hwt hok
            obtain ⟨g1, g2, g3⟩ := grow_cor hm hv1 hok
            have hgc := co_lt c (growN (okB w c) (v - 1) c)
            refine lv_aload_n hx hb dX0_solve_75 rfl (lv_at hl 0 rfl) ?_
            refine lv_iload_n hx hb dX0_solve_76 rfl (lv_at hl 2 rfl) ?_
            refine g_tw (y := nI (v - 1)) (exv) ?_
            refine lv_iload_n hx hb dX0_solve_77 rfl (lv_at hl 1 rfl) ?_
            refine g_callR (W.runV (As := [.int (nI (v - 1)), .int (nI (2 ^ c - 1))]) (rest := []) ⟨hx, hb, hml, hown, hts⟩ (mX0_grow l D q d w pr dr kf ff f c ds (nI y) (nI z) 1 (v - 1) (2 ^ c - 1) hc9) (cwV 2 hts (lw_V q130 q132 qs5 q26 q133) rfl rfl rfl (by decide +kernel) ⟨Nat.le_of_ble_eq_true rfl, Nat.le_of_ble_eq_true rfl⟩) (x_preV _ hK hP) rfl rfl hl.1 rfl (lv_room (Nat.le_of_ble_eq_true rfl)) dX0_solve_78 ⟨Nat.le_of_ble_eq_true rfl, Nat.le_of_ble_eq_true rfl⟩) ?_
            refine g_tw (y := nI (growN (okB w c) (v - 1) c)) (congrArg nI (sbs_and.mpr (sbs_all g2))) ?_
            refine lv_istore_n (lv' := [(3, .int (nI (growN (okB w c) (v - 1) c))), (0, .ref (q 0)), (1, .int (nI (2 ^ c - 1))), (2, .int x)]) hx hb dX0_solve_81 rfl hl (by decide) rfl (fun ls hl => ?_)
            refine lv_aload_n hx hb dX0_solve_82 rfl (lv_at hl 1 rfl) ?_
            refine lv_iload_n hx hb dX0_solve_83 rfl (lv_at hl 2 rfl) ?_
            refine lv_iload_n hx hb dX0_solve_84 rfl (lv_at hl 0 rfl) ?_
            refine lv_iconst (v := (-1)) hx hb dX0_solve_85 (by decide) ?_
            refine lv_ixor hx hb dX0_solve_86 ?_
            refine lv_iand hx hb dX0_solve_87 ?_
            refine g_tw (y := nI (co c (growN (okB w c) (v - 1) c))) (sd_I _ _) ?_
            refine g_callv (va_runV (As := [.int (nI (co c (growN (okB w c) (v - 1) c)))]) (rest := []) ⟨hx, hb, hml, hown, hts⟩ (mX0_putFix l D q d w pr dr kf ff f c ds (nI y) z 1 (co c (growN (okB w c) (v - 1) c)) hq hz5) (cwV 1 hts (lw_V q134 q136 qs6 q26 q137) rfl rfl rfl (by decide +kernel) ⟨Nat.le_of_ble_eq_true rfl, Nat.le_of_ble_eq_true rfl⟩) (x_preV _ hK hP) rfl rfl hl.1 rfl (lv_room (Nat.le_of_ble_eq_true rfl)) dX0_solve_88 ⟨Nat.le_of_ble_eq_true rfl, Nat.le_of_ble_eq_true rfl⟩) hS (fun u H locs hu hP hS => ?_)
            obtain ⟨a, ha, a1, a2, rfl⟩ := hu
            have hP : va_P D vwCl (xw q d w pr dr kf (upd (movF ff a z) a (nI (co c (growN (okB w c) (v - 1) c)))) f (nI c) ds (nI y) (nI (z + 1)) 1) H := hP
            refine lv_aload_n hx hb dX0_solve_91 rfl (lv_at hl 1 rfl) ?_
            refine lv_iload_n hx hb dX0_solve_92 rfl (lv_at hl 0 rfl) ?_
            refine g_callv (va_runV (As := [.int (nI (growN (okB w c) (v - 1) c))]) (rest := []) ⟨hx, hb, hml, hown, hts⟩ (mX0_takeParts l D q d w pr dr kf (upd (movF ff a z) a (nI (co c (growN (okB w c) (v - 1) c)))) f c ds (nI y) (nI (z + 1)) 1 (growN (okB w c) (v - 1) c) hq (by omega)) (cwV 1 hts (lw_V q138 q140 qs7 q26 q141) rfl rfl rfl (by decide +kernel) ⟨Nat.le_of_ble_eq_true rfl, Nat.le_of_ble_eq_true rfl⟩) (x_preV _ hK hP) rfl rfl hl.1 rfl (lv_room (Nat.le_of_ble_eq_true rfl)) dX0_solve_93 ⟨Nat.le_of_ble_eq_true rfl, Nat.le_of_ble_eq_true rfl⟩) hS (fun u H locs hu hP hS => ?_)
            obtain ⟨f1, rfl, hf1⟩ := hu
            have hP : va_P D vwCl (xw q d w pr dr kf (upd (movF ff a z) a (nI (co c (growN (okB w c) (v - 1) c)))) f1 (nI c) ds (nI y) (nI (z + 1)) 1) H := hP
            refine lv_goto (tgt := 116) hx hb dX0_solve_96 (by decide) ?_
            refine lv_iinc (v := (x + (-1))) (lv' := [(2, .int (x + (-1))), (3, .int (nI (growN (okB w c) (v - 1) c))), (0, .ref (q 0)), (1, .int (nI (2 ^ c - 1)))]) hx hb dX0_solve_116 hl (k := 3) rfl (rfl) (by decide) rfl (fun ls hl => ?_)
            refine lv_goto (tgt := 55) hx hb dX0_solve_119 (by decide) ?_
            exact ih (v - 1) _ _ _ (by omega) ⟨(v - 1), (x + (-1)), kf, upd (movF ff a z) a (nI (co c (growN (okB w c) (v - 1) c))), f1, g, (insN h a (co c (growN (okB w c) (v - 1) c))), y, (z + 1), rfl, by omega, by rw [exv]; exact i_add_m1 _, SInv_cor hc9 hm hI hv1 hwt hok ha a1 a2 hf1, hP, hS, lv_sub hl [2, 3, 0] rfl⟩
    · have hlt : k < 16 := c_lt (by omega) (by omega) c_28
      refine lv_aload_n hx hb dX0_solve_31 rfl (lv_at hl 0 rfl) ?_
      refine va_get (D := D) (ci := 0) (v := .ref (q 6)) (C := RX0) (T := TX0) (N := 11) hx hb hts in_X0 hown hK hP 0 rfl rfl 5 (by decide) (hts _ q41) (fun _ h9 => h9) rfl dX0_solve_32 ?_
      refine lv_iload_n hx hb dX0_solve_35 rfl (lv_at hl 1 rfl) ?_
      refine lv_iconst (v := (-1)) hx hb dX0_solve_36 (by decide) ?_
      refine g_iast hx hb hK hP (x_D hq) hS 6 5 rfl rfl (k := k) (hlt) (by decide) dX0_solve_37 (fun H locs hP hS => ?_)
      have hP : va_P D vwCl (xw q d w pr dr kl fl (upd f k (-1)) (nI c) ds (nI 0) (nI 0) 1) H := hP
      refine lv_iinc (v := nI (k + 1)) (lv' := [(1, .int (nI (k + 1))), (0, .ref (q 0))]) hx hb dX0_solve_38 hl (k := 1) rfl (inc1 _) (by decide) rfl (fun ls hl => ?_)
      refine lv_goto (tgt := 25) hx hb dX0_solve_41 (by decide) ?_
      exact ih (n - 1) _ _ _ (by omega) ⟨(k + 1), upd f k (-1), by omega, fun j hj => by unfold upd; by_cases e : j = k; (rw [if_pos e]); (rw [if_neg e]; exact hf j (by omega)), hP, hS, lv_sub hl [1, 0] rfl⟩
  · have hsv1 : sv = 1 ∧ ∃ y z, kc = nI y ∧ fc = nI z ∧ XSol w c kl fl y z := by rcases hsv with h | h; exact absurd h c_4; exact h
    exact g_retv (w, pr, dr, kl, fl, wt, nI c, ds, kc, fc, sv) hx hb hr hlocks hP hS (by obtain ⟨h1, y, z, h2, h3, h4⟩ := hsv1; exact ⟨kl, fl, wt, y, z, by rw [h1, h2, h3], h4⟩) dX0_solve_7

set_option maxHeartbeats 4000000 in
theorem mX0_kernels (l : Launch) (D : va_G) (q : Nat → Nat) (d : Nat → ClassId) (w : Nat → Int32) (pr : Nat → Int32) (dr : Nat → Int32) (kl : Nat → Int32) (fl : Nat → Int32) (wt : Nat → Int32) (c : Nat) (ds : Int32) (kc : Int32) (fc : Int32) (sv : Int32) (hq : gJ 7 q) (hc9 : c ≤ 9) (hsv : sv = 0 ∨ (sv = 1 ∧ ∃ y z, kc = nI y ∧ fc = nI z ∧ XSol w c kl fl y z)) : Met l yX0_kernels (ws_ yX0_kernels cX0_kernels 1 (some .int)) ({ frames := 3, cells := 0, slots := 0, locals := 71 } : Room) (gPc D (xw q d w pr dr kl fl wt (nI c) ds kc fc sv) (xt d) [.ref (q 0)]) (gQi D (xwS q d) (fun (r : Int32) (u : XS) => ∃ (kl1 fl1 wt1 : Nat → Int32) (y z : Nat), u = (w, pr, dr, kl1, fl1, wt1, nI c, ds, nI y, nI z, 1) ∧ XSol w c kl1 fl1 y z ∧ r = nI (KL (okB w c) c).length) (gA 7 q)) 0 0 (gA 7 q) := by
  refine g_met (by decide) (Nat.le_of_ble_eq_true rfl) ?_
  intro p e s m below meth cd hx hb hr hml hown hts hlocks hname hP hK ls hl
  have hown : s.vm.findClass RX0 = some m.cls := hown
  have hl : lv_has ls 1 [(0, .ref (q 0))] := hl
  have hS : va_S (gA 7 q) s.heap s.heap [] := va_S.rf
  refine lv_aload_n hx hb dX0_kernels_0 rfl (lv_at hl 0 rfl) ?_
  refine g_callv (va_runV (As := []) (rest := []) ⟨hx, hb, hml, hown, hts⟩ (mX0_solve l D q d w pr dr kl fl wt c ds kc fc sv hq hc9 hsv) (cwV 0 hts (lw_V q122 q124 qs3 q26 q125) rfl rfl rfl (by decide +kernel) ⟨Nat.le_of_ble_eq_true rfl, Nat.le_of_ble_eq_true rfl⟩) (x_preV _ hK hP) rfl rfl hl.1 rfl (lv_room (Nat.le_of_ble_eq_true rfl)) dX0_kernels_1 ⟨Nat.le_of_ble_eq_true rfl, Nat.le_of_ble_eq_true rfl⟩) hS (fun u H locs hu hP hS => ?_)
  obtain ⟨kl1, fl1, wt1, y, z, rfl, hX⟩ := hu
  have hP : va_P D vwCl (xw q d w pr dr kl1 fl1 wt1 (nI c) ds (nI y) (nI z) 1) H := hP
  obtain ⟨hy, hz, hkl, hfl⟩ := id hX
  have hyl : y ≤ 126 := by rw [hy]; exact KL_le hc9
  have hzl : z ≤ 126 := by rw [hz]; exact FL_le hc9
  have hz0 : 0 < z := by rw [hz]; exact FL_pos hc9
  refine lv_aload_n hx hb dX0_kernels_4 rfl (lv_at hl 0 rfl) ?_
  refine va_get (D := D) (ci := 0) (v := .int (nI y)) (C := RX0) (T := TX0) (N := 11) hx hb hts in_X0 hown hK hP 0 rfl rfl 8 (by decide) (hts _ q44) (fun _ h9 => h9) rfl dX0_kernels_5 ?_
  exact g_reti (w, pr, dr, kl1, fl1, wt1, nI c, ds, nI y, nI z, 1) hx hb hr hlocks hP hS (⟨kl1, fl1, wt1, y, z, rfl, hX, by rw [← hy]⟩) dX0_kernels_8

set_option maxHeartbeats 4000000 in
theorem mX0_corrections (l : Launch) (D : va_G) (q : Nat → Nat) (d : Nat → ClassId) (w : Nat → Int32) (pr : Nat → Int32) (dr : Nat → Int32) (kl : Nat → Int32) (fl : Nat → Int32) (wt : Nat → Int32) (c : Nat) (ds : Int32) (kc : Int32) (fc : Int32) (sv : Int32) (hq : gJ 7 q) (hc9 : c ≤ 9) (hsv : sv = 0 ∨ (sv = 1 ∧ ∃ y z, kc = nI y ∧ fc = nI z ∧ XSol w c kl fl y z)) : Met l yX0_corrections (ws_ yX0_corrections cX0_corrections 1 (some .int)) ({ frames := 3, cells := 0, slots := 0, locals := 71 } : Room) (gPc D (xw q d w pr dr kl fl wt (nI c) ds kc fc sv) (xt d) [.ref (q 0)]) (gQi D (xwS q d) (fun (r : Int32) (u : XS) => ∃ (kl1 fl1 wt1 : Nat → Int32) (y z : Nat), u = (w, pr, dr, kl1, fl1, wt1, nI c, ds, nI y, nI z, 1) ∧ XSol w c kl1 fl1 y z ∧ r = nI (FL (okB w c) c).length) (gA 7 q)) 0 0 (gA 7 q) := by
  refine g_met (by decide) (Nat.le_of_ble_eq_true rfl) ?_
  intro p e s m below meth cd hx hb hr hml hown hts hlocks hname hP hK ls hl
  have hown : s.vm.findClass RX0 = some m.cls := hown
  have hl : lv_has ls 1 [(0, .ref (q 0))] := hl
  have hS : va_S (gA 7 q) s.heap s.heap [] := va_S.rf
  refine lv_aload_n hx hb dX0_corrections_0 rfl (lv_at hl 0 rfl) ?_
  refine g_callv (va_runV (As := []) (rest := []) ⟨hx, hb, hml, hown, hts⟩ (mX0_solve l D q d w pr dr kl fl wt c ds kc fc sv hq hc9 hsv) (cwV 0 hts (lw_V q122 q124 qs3 q26 q125) rfl rfl rfl (by decide +kernel) ⟨Nat.le_of_ble_eq_true rfl, Nat.le_of_ble_eq_true rfl⟩) (x_preV _ hK hP) rfl rfl hl.1 rfl (lv_room (Nat.le_of_ble_eq_true rfl)) dX0_corrections_1 ⟨Nat.le_of_ble_eq_true rfl, Nat.le_of_ble_eq_true rfl⟩) hS (fun u H locs hu hP hS => ?_)
  obtain ⟨kl1, fl1, wt1, y, z, rfl, hX⟩ := hu
  have hP : va_P D vwCl (xw q d w pr dr kl1 fl1 wt1 (nI c) ds (nI y) (nI z) 1) H := hP
  obtain ⟨hy, hz, hkl, hfl⟩ := id hX
  have hyl : y ≤ 126 := by rw [hy]; exact KL_le hc9
  have hzl : z ≤ 126 := by rw [hz]; exact FL_le hc9
  have hz0 : 0 < z := by rw [hz]; exact FL_pos hc9
  refine lv_aload_n hx hb dX0_corrections_4 rfl (lv_at hl 0 rfl) ?_
  refine va_get (D := D) (ci := 0) (v := .int (nI z)) (C := RX0) (T := TX0) (N := 11) hx hb hts in_X0 hown hK hP 0 rfl rfl 9 (by decide) (hts _ q45) (fun _ h9 => h9) rfl dX0_corrections_5 ?_
  exact g_reti (w, pr, dr, kl1, fl1, wt1, nI c, ds, nI y, nI z, 1) hx hb hr hlocks hP hS (⟨kl1, fl1, wt1, y, z, rfl, hX, by rw [← hz]⟩) dX0_corrections_8

set_option maxHeartbeats 4000000 in
theorem mX0_kernel (l : Launch) (D : va_G) (q : Nat → Nat) (d : Nat → ClassId) (w : Nat → Int32) (pr : Nat → Int32) (dr : Nat → Int32) (kl : Nat → Int32) (fl : Nat → Int32) (wt : Nat → Int32) (c : Nat) (ds : Int32) (kc : Int32) (fc : Int32) (sv : Int32) (p0 : Int32) (hq : gJ 7 q) (hc9 : c ≤ 9) (hsv : sv = 0 ∨ (sv = 1 ∧ ∃ y z, kc = nI y ∧ fc = nI z ∧ XSol w c kl fl y z)) : Met l yX0_kernel (ws_ yX0_kernel cX0_kernel 2 (some .int)) ({ frames := 3, cells := 0, slots := 0, locals := 71 } : Room) (gPc D (xw q d w pr dr kl fl wt (nI c) ds kc fc sv) (xt d) [.ref (q 0), .int p0]) (gQi D (xwS q d) (fun (r : Int32) (u : XS) => ∃ (kl1 fl1 wt1 : Nat → Int32) (y z : Nat), u = (w, pr, dr, kl1, fl1, wt1, nI c, ds, nI y, nI z, 1) ∧ XSol w c kl1 fl1 y z ∧ r = lsI (KL (okB w c) c) p0) (gA 7 q)) 0 0 (gA 7 q) := by
  refine g_met (by decide) (Nat.le_of_ble_eq_true rfl) ?_
  intro p e s m below meth cd hx hb hr hml hown hts hlocks hname hP hK ls hl
  have hown : s.vm.findClass RX0 = some m.cls := hown
  have hl : lv_has ls 2 [(0, .ref (q 0)), (1, .int p0)] := hl
  have hS : va_S (gA 7 q) s.heap s.heap [] := va_S.rf
  refine lv_aload_n hx hb dX0_kernel_0 rfl (lv_at hl 0 rfl) ?_
  refine g_callv (va_runV (As := []) (rest := []) ⟨hx, hb, hml, hown, hts⟩ (mX0_solve l D q d w pr dr kl fl wt c ds kc fc sv hq hc9 hsv) (cwV 0 hts (lw_V q122 q124 qs3 q26 q125) rfl rfl rfl (by decide +kernel) ⟨Nat.le_of_ble_eq_true rfl, Nat.le_of_ble_eq_true rfl⟩) (x_preV _ hK hP) rfl rfl hl.1 rfl (lv_room (Nat.le_of_ble_eq_true rfl)) dX0_kernel_1 ⟨Nat.le_of_ble_eq_true rfl, Nat.le_of_ble_eq_true rfl⟩) hS (fun u H locs hu hP hS => ?_)
  obtain ⟨kl1, fl1, wt1, y, z, rfl, hX⟩ := hu
  have hP : va_P D vwCl (xw q d w pr dr kl1 fl1 wt1 (nI c) ds (nI y) (nI z) 1) H := hP
  obtain ⟨hy, hz, hkl, hfl⟩ := id hX
  have hyl : y ≤ 126 := by rw [hy]; exact KL_le hc9
  have hzl : z ≤ 126 := by rw [hz]; exact FL_le hc9
  have hz0 : 0 < z := by rw [hz]; exact FL_pos hc9
  refine lv_iload_n hx hb dX0_kernel_4 rfl (lv_at hl 1 rfl) ?_
  refine lv_if_lt (tgt := 25) hx hb dX0_kernel_5 (by decide) (fun c_5 => ?_) (fun c_5 => ?_)
  · refine lv_iconst (v := (-1)) hx hb dX0_kernel_25 (by decide) ?_
    exact g_reti (w, pr, dr, kl1, fl1, wt1, nI c, ds, nI y, nI z, 1) hx hb hr hlocks hP hS (⟨kl1, fl1, wt1, y, z, rfl, hX, by unfold lsI; rw [if_pos c_5]⟩) dX0_kernel_26
  · refine lv_iload_n hx hb dX0_kernel_8 rfl (lv_at hl 1 rfl) ?_
    refine lv_aload_n hx hb dX0_kernel_9 rfl (lv_at hl 0 rfl) ?_
    refine va_get (D := D) (ci := 0) (v := .int (nI y)) (C := RX0) (T := TX0) (N := 11) hx hb hts in_X0 hown hK hP 0 rfl rfl 8 (by decide) (hts _ q44) (fun _ h9 => h9) rfl dX0_kernel_10 ?_
    refine lv_icmp_ge (tgt := 25) hx hb dX0_kernel_13 (by decide) (fun c_13 => ?_) (fun c_13 => ?_)
    · refine lv_iconst (v := (-1)) hx hb dX0_kernel_25 (by decide) ?_
      exact g_reti (w, pr, dr, kl1, fl1, wt1, nI c, ds, nI y, nI z, 1) hx hb hr hlocks hP hS (⟨kl1, fl1, wt1, y, z, rfl, hX, by unfold lsI; rw [if_neg c_5, ← hy, if_pos c_13]⟩) dX0_kernel_26
    · obtain ⟨j, hj, hp⟩ := nI_of c_5
      have hjl : j < y := by rcases Nat.lt_or_ge j y with r | r; exact r; exact absurd (by rw [hp]; exact nI_le r hj) c_13
      refine lv_aload_n hx hb dX0_kernel_16 rfl (lv_at hl 0 rfl) ?_
      refine va_get (D := D) (ci := 0) (v := .ref (q 4)) (C := RX0) (T := TX0) (N := 11) hx hb hts in_X0 hown hK hP 0 rfl rfl 3 (by decide) (hts _ q39) (fun _ h9 => h9) rfl dX0_kernel_17 ?_
      refine lv_iload_n hx hb dX0_kernel_20 rfl (lv_at hl 1 rfl) ?_
      refine g_tw (y := nI j) (hp) ?_
      refine g_iald hx hb hK hP 4 3 rfl rfl (k := j) (by omega) (by decide) dX0_kernel_21 ?_
      refine lv_goto (tgt := 26) hx hb dX0_kernel_22 (by decide) ?_
      exact g_reti (w, pr, dr, kl1, fl1, wt1, nI c, ds, nI y, nI z, 1) hx hb hr hlocks hP hS (⟨kl1, fl1, wt1, y, z, rfl, hX, by unfold lsI; rw [if_neg c_5, ← hy, if_neg c_13, hp, nI_clamp hj]; exact hkl j (by omega)⟩) dX0_kernel_26

set_option maxHeartbeats 4000000 in
theorem mX0_correction (l : Launch) (D : va_G) (q : Nat → Nat) (d : Nat → ClassId) (w : Nat → Int32) (pr : Nat → Int32) (dr : Nat → Int32) (kl : Nat → Int32) (fl : Nat → Int32) (wt : Nat → Int32) (c : Nat) (ds : Int32) (kc : Int32) (fc : Int32) (sv : Int32) (p0 : Int32) (hq : gJ 7 q) (hc9 : c ≤ 9) (hsv : sv = 0 ∨ (sv = 1 ∧ ∃ y z, kc = nI y ∧ fc = nI z ∧ XSol w c kl fl y z)) : Met l yX0_correction (ws_ yX0_correction cX0_correction 2 (some .int)) ({ frames := 3, cells := 0, slots := 0, locals := 71 } : Room) (gPc D (xw q d w pr dr kl fl wt (nI c) ds kc fc sv) (xt d) [.ref (q 0), .int p0]) (gQi D (xwS q d) (fun (r : Int32) (u : XS) => ∃ (kl1 fl1 wt1 : Nat → Int32) (y z : Nat), u = (w, pr, dr, kl1, fl1, wt1, nI c, ds, nI y, nI z, 1) ∧ XSol w c kl1 fl1 y z ∧ r = lsI (FL (okB w c) c) p0) (gA 7 q)) 0 0 (gA 7 q) := by
  refine g_met (by decide) (Nat.le_of_ble_eq_true rfl) ?_
  intro p e s m below meth cd hx hb hr hml hown hts hlocks hname hP hK ls hl
  have hown : s.vm.findClass RX0 = some m.cls := hown
  have hl : lv_has ls 2 [(0, .ref (q 0)), (1, .int p0)] := hl
  have hS : va_S (gA 7 q) s.heap s.heap [] := va_S.rf
  refine lv_aload_n hx hb dX0_correction_0 rfl (lv_at hl 0 rfl) ?_
  refine g_callv (va_runV (As := []) (rest := []) ⟨hx, hb, hml, hown, hts⟩ (mX0_solve l D q d w pr dr kl fl wt c ds kc fc sv hq hc9 hsv) (cwV 0 hts (lw_V q122 q124 qs3 q26 q125) rfl rfl rfl (by decide +kernel) ⟨Nat.le_of_ble_eq_true rfl, Nat.le_of_ble_eq_true rfl⟩) (x_preV _ hK hP) rfl rfl hl.1 rfl (lv_room (Nat.le_of_ble_eq_true rfl)) dX0_correction_1 ⟨Nat.le_of_ble_eq_true rfl, Nat.le_of_ble_eq_true rfl⟩) hS (fun u H locs hu hP hS => ?_)
  obtain ⟨kl1, fl1, wt1, y, z, rfl, hX⟩ := hu
  have hP : va_P D vwCl (xw q d w pr dr kl1 fl1 wt1 (nI c) ds (nI y) (nI z) 1) H := hP
  obtain ⟨hy, hz, hkl, hfl⟩ := id hX
  have hyl : y ≤ 126 := by rw [hy]; exact KL_le hc9
  have hzl : z ≤ 126 := by rw [hz]; exact FL_le hc9
  have hz0 : 0 < z := by rw [hz]; exact FL_pos hc9
  refine lv_iload_n hx hb dX0_correction_4 rfl (lv_at hl 1 rfl) ?_
  refine lv_if_lt (tgt := 25) hx hb dX0_correction_5 (by decide) (fun c_5 => ?_) (fun c_5 => ?_)
  · refine lv_iconst (v := (-1)) hx hb dX0_correction_25 (by decide) ?_
    exact g_reti (w, pr, dr, kl1, fl1, wt1, nI c, ds, nI y, nI z, 1) hx hb hr hlocks hP hS (⟨kl1, fl1, wt1, y, z, rfl, hX, by unfold lsI; rw [if_pos c_5]⟩) dX0_correction_26
  · refine lv_iload_n hx hb dX0_correction_8 rfl (lv_at hl 1 rfl) ?_
    refine lv_aload_n hx hb dX0_correction_9 rfl (lv_at hl 0 rfl) ?_
    refine va_get (D := D) (ci := 0) (v := .int (nI z)) (C := RX0) (T := TX0) (N := 11) hx hb hts in_X0 hown hK hP 0 rfl rfl 9 (by decide) (hts _ q45) (fun _ h9 => h9) rfl dX0_correction_10 ?_
    refine lv_icmp_ge (tgt := 25) hx hb dX0_correction_13 (by decide) (fun c_13 => ?_) (fun c_13 => ?_)
    · refine lv_iconst (v := (-1)) hx hb dX0_correction_25 (by decide) ?_
      exact g_reti (w, pr, dr, kl1, fl1, wt1, nI c, ds, nI y, nI z, 1) hx hb hr hlocks hP hS (⟨kl1, fl1, wt1, y, z, rfl, hX, by unfold lsI; rw [if_neg c_5, ← hz, if_pos c_13]⟩) dX0_correction_26
    · obtain ⟨j, hj, hp⟩ := nI_of c_5
      have hjl : j < z := by rcases Nat.lt_or_ge j z with r | r; exact r; exact absurd (by rw [hp]; exact nI_le r hj) c_13
      refine lv_aload_n hx hb dX0_correction_16 rfl (lv_at hl 0 rfl) ?_
      refine va_get (D := D) (ci := 0) (v := .ref (q 5)) (C := RX0) (T := TX0) (N := 11) hx hb hts in_X0 hown hK hP 0 rfl rfl 4 (by decide) (hts _ q40) (fun _ h9 => h9) rfl dX0_correction_17 ?_
      refine lv_iload_n hx hb dX0_correction_20 rfl (lv_at hl 1 rfl) ?_
      refine g_tw (y := nI j) (hp) ?_
      refine g_iald hx hb hK hP 5 4 rfl rfl (k := j) (by omega) (by decide) dX0_correction_21 ?_
      refine lv_goto (tgt := 26) hx hb dX0_correction_22 (by decide) ?_
      exact g_reti (w, pr, dr, kl1, fl1, wt1, nI c, ds, nI y, nI z, 1) hx hb hr hlocks hP hS (⟨kl1, fl1, wt1, y, z, rfl, hX, by unfold lsI; rw [if_neg c_5, ← hz, if_neg c_13, hp, nI_clamp hj]; exact hfl j (by omega)⟩) dX0_correction_26

set_option maxHeartbeats 4000000 in
theorem mX0_cheapestSet (l : Launch) (D : va_G) (q : Nat → Nat) (d : Nat → ClassId) (w : Nat → Int32) (pr : Nat → Int32) (dr : Nat → Int32) (kl : Nat → Int32) (fl : Nat → Int32) (wt : Nat → Int32) (c : Nat) (ds : Int32) (kc : Int32) (fc : Int32) (sv : Int32) (hq : gJ 7 q) (hc9 : c ≤ 9) (hsv : sv = 0 ∨ (sv = 1 ∧ ∃ y z, kc = nI y ∧ fc = nI z ∧ XSol w c kl fl y z)) : Met l yX0_cheapestSet (ws_ yX0_cheapestSet cX0_cheapestSet 3 (some .int)) ({ frames := 3, cells := 0, slots := 0, locals := 71 } : Room) (gPc D (xw q d w pr dr kl fl wt (nI c) ds kc fc sv) (xt d) [.ref (q 0)]) (gQi D (xwS q d) (fun (r : Int32) (u : XS) => ∃ (kl1 fl1 wt1 : Nat → Int32) (y z : Nat), u = (w, pr, dr, kl1, fl1, wt1, nI c, ds, nI y, nI z, 1) ∧ XSol w c kl1 fl1 y z ∧ r = (FL (okB w c) c).foldl (stW (fun x => priF pr x c)) (-1)) (gA 7 q)) 0 0 (gA 7 q) := by
  refine g_met (by decide) (Nat.le_of_ble_eq_true rfl) ?_
  intro p e s m below meth cd hx hb hr hml hown hts hlocks hname hP hK ls hl
  have hown : s.vm.findClass RX0 = some m.cls := hown
  have hl : lv_has ls 3 [(0, .ref (q 0))] := hl
  have hS : va_S (gA 7 q) s.heap s.heap [] := va_S.rf
  refine lv_aload_n hx hb dX0_cheapestSet_0 rfl (lv_at hl 0 rfl) ?_
  refine g_callv (va_runV (As := []) (rest := []) ⟨hx, hb, hml, hown, hts⟩ (mX0_solve l D q d w pr dr kl fl wt c ds kc fc sv hq hc9 hsv) (cwV 0 hts (lw_V q122 q124 qs3 q26 q125) rfl rfl rfl (by decide +kernel) ⟨Nat.le_of_ble_eq_true rfl, Nat.le_of_ble_eq_true rfl⟩) (x_preV _ hK hP) rfl rfl hl.1 rfl (lv_room (Nat.le_of_ble_eq_true rfl)) dX0_cheapestSet_1 ⟨Nat.le_of_ble_eq_true rfl, Nat.le_of_ble_eq_true rfl⟩) hS (fun u H locs hu hP hS => ?_)
  obtain ⟨kl1, fl1, wt1, y, z, rfl, hX⟩ := hu
  have hP : va_P D vwCl (xw q d w pr dr kl1 fl1 wt1 (nI c) ds (nI y) (nI z) 1) H := hP
  obtain ⟨hy, hz, hkl, hfl⟩ := id hX
  have hyl : y ≤ 126 := by rw [hy]; exact KL_le hc9
  have hzl : z ≤ 126 := by rw [hz]; exact FL_le hc9
  have hz0 : 0 < z := by rw [hz]; exact FL_pos hc9
  refine lv_aload_n hx hb dX0_cheapestSet_4 rfl (lv_at hl 0 rfl) ?_
  refine va_get (D := D) (ci := 0) (v := .ref (q 5)) (C := RX0) (T := TX0) (N := 11) hx hb hts in_X0 hown hK hP 0 rfl rfl 4 (by decide) (hts _ q40) (fun _ h9 => h9) rfl dX0_cheapestSet_5 ?_
  refine lv_iconst (v := 0) hx hb dX0_cheapestSet_8 (by decide) ?_
  refine g_tw (y := nI 0) (nI_0.symm) ?_
  refine g_iald hx hb hK hP 5 4 rfl rfl (k := 0) (by omega) (by decide) dX0_cheapestSet_9 ?_
  refine g_tw (y := nI ((FL (okB w c) c).getD 0 0)) (hfl 0 (by omega)) ?_
  refine lv_istore_n (lv' := [(1, .int (nI ((FL (okB w c) c).getD 0 0))), (0, .ref (q 0))]) hx hb dX0_cheapestSet_10 rfl hl (by decide) rfl (fun ls hl => ?_)
  refine lv_iconst (v := 1) hx hb dX0_cheapestSet_11 (by decide) ?_
  refine g_tw (y := nI 1) (rfl) ?_
  refine lv_istore_n (lv' := [(2, .int (nI 1)), (1, .int (nI ((FL (okB w c) c).getD 0 0))), (0, .ref (q 0))]) hx hb dX0_cheapestSet_12 rfl hl (by decide) rfl (fun ls hl => ?_)
  refine g_loopH (pc := 13) (P := fun n H locs ls => ∃ (k : Nat) (x : Int32), (k + n = z) ∧ (1 ≤ k) ∧ (x = ((FL (okB w c) c).take k).foldl (stW (fun x => priF pr x c)) (-1)) ∧ (¬ x < 0) ∧ va_P D vwCl (xw q d w pr dr kl1 fl1 wt1 (nI c) ds (nI y) (nI z) 1) H ∧ va_S (gA 7 q) s.heap H locs ∧ lv_has ls 3 [(0, .ref (q 0)), (1, .int x), (2, .int (nI k))]) ?_ (z - 1) _ _ _ ⟨1, nI ((FL (okB w c) c).getD 0 0), by omega, Nat.le_refl 1, by rw [fold_take _ _ _ (by omega)]; exact (if_pos (Or.inl (show (-1 : Int32) < 0 from by decide))).symm, nI_pos (by have := mem_lt (getD_mem (L := FL (okB w c) c) (i := 0) (by omega)); have := pow9 hc9; omega), hP, hS, lv_sub hl [2, 1, 0] rfl⟩
  intro n H locs ls hh ih
  obtain ⟨k, x, hk, hk1, ex, hx0, hP, hS, hl⟩ := hh
  refine lv_iload_n hx hb dX0_cheapestSet_13 rfl (lv_at hl 2 rfl) ?_
  refine lv_aload_n hx hb dX0_cheapestSet_14 rfl (lv_at hl 0 rfl) ?_
  refine va_get (D := D) (ci := 0) (v := .int (nI z)) (C := RX0) (T := TX0) (N := 11) hx hb hts in_X0 hown hK hP 0 rfl rfl 9 (by decide) (hts _ q45) (fun _ h9 => h9) rfl dX0_cheapestSet_15 ?_
  refine lv_icmp_ge (tgt := 52) hx hb dX0_cheapestSet_18 (by decide) (fun c_18 => ?_) (fun c_18 => ?_)
  · have hkc : k = z := c_eq (by omega) (by omega) c_18
    refine lv_iload_n hx hb dX0_cheapestSet_52 rfl (lv_at hl 1 rfl) ?_
    exact g_reti (w, pr, dr, kl1, fl1, wt1, nI c, ds, nI y, nI z, 1) hx hb hr hlocks hP hS (⟨kl1, fl1, wt1, y, z, rfl, hX, by rw [ex, hkc, hz, List.take_length]⟩) dX0_cheapestSet_53
  · have hlt : k < z := c_lt (by omega) (by omega) c_18
    refine lv_aload_n hx hb dX0_cheapestSet_21 rfl (lv_at hl 0 rfl) ?_
    refine lv_aload_n hx hb dX0_cheapestSet_22 rfl (lv_at hl 0 rfl) ?_
    refine va_get (D := D) (ci := 0) (v := .ref (q 5)) (C := RX0) (T := TX0) (N := 11) hx hb hts in_X0 hown hK hP 0 rfl rfl 4 (by decide) (hts _ q40) (fun _ h9 => h9) rfl dX0_cheapestSet_23 ?_
    refine lv_iload_n hx hb dX0_cheapestSet_26 rfl (lv_at hl 2 rfl) ?_
    refine g_iald hx hb hK hP 5 4 rfl rfl (k := k) (by omega) (by decide) dX0_cheapestSet_27 ?_
    refine g_tw (y := nI ((FL (okB w c) c).getD k 0)) (hfl k (by omega)) ?_
    refine g_callR (W.runV (As := [.int (nI ((FL (okB w c) c).getD k 0))]) (rest := []) ⟨hx, hb, hml, hown, hts⟩ (mX0_priceOf l D q d w pr dr kl1 fl1 wt1 c ds (nI y) (nI z) 1 (nI ((FL (okB w c) c).getD k 0)) hc9) (cwV 1 hts (lw_V q178 q180 qs12 q26 q181) rfl rfl rfl (by decide +kernel) ⟨Nat.le_of_ble_eq_true rfl, Nat.le_of_ble_eq_true rfl⟩) (x_preV _ hK hP) rfl rfl hl.1 rfl (lv_room (Nat.le_of_ble_eq_true rfl)) dX0_cheapestSet_28 ⟨Nat.le_of_ble_eq_true rfl, Nat.le_of_ble_eq_true rfl⟩) ?_
    refine lv_aload_n hx hb dX0_cheapestSet_31 rfl (lv_at hl 0 rfl) ?_
    refine lv_iload_n hx hb dX0_cheapestSet_32 rfl (lv_at hl 1 rfl) ?_
    refine g_callR (W.runV (As := [.int x]) (rest := [.int (priF pr (nI ((FL (okB w c) c).getD k 0)) c)]) ⟨hx, hb, hml, hown, hts⟩ (mX0_priceOf l D q d w pr dr kl1 fl1 wt1 c ds (nI y) (nI z) 1 x hc9) (cwV 1 hts (lw_V q178 q180 qs12 q26 q181) rfl rfl rfl (by decide +kernel) ⟨Nat.le_of_ble_eq_true rfl, Nat.le_of_ble_eq_true rfl⟩) (x_preV _ hK hP) rfl rfl hl.1 rfl (lv_room (Nat.le_of_ble_eq_true rfl)) dX0_cheapestSet_33 ⟨Nat.le_of_ble_eq_true rfl, Nat.le_of_ble_eq_true rfl⟩) ?_
    refine lv_icmp_ge (tgt := 46) hx hb dX0_cheapestSet_36 (by decide) (fun c_36 => ?_) (fun c_36 => ?_)
    · refine lv_iinc (v := nI (k + 1)) (lv' := [(2, .int (nI (k + 1))), (0, .ref (q 0)), (1, .int x)]) hx hb dX0_cheapestSet_46 hl (k := 2) rfl (inc1 _) (by decide) rfl (fun ls hl => ?_)
      refine lv_goto (tgt := 13) hx hb dX0_cheapestSet_49 (by decide) ?_
      exact ih (n - 1) _ _ _ (by omega) ⟨(k + 1), x, by omega, by omega, by rw [fold_take _ _ _ (by omega), ← ex]; exact (if_neg (fun q => q.elim hx0 (Int32.not_lt.mpr c_36))).symm, hx0, hP, hS, lv_sub hl [1, 2, 0] rfl⟩
    · refine lv_aload_n hx hb dX0_cheapestSet_39 rfl (lv_at hl 0 rfl) ?_
      refine va_get (D := D) (ci := 0) (v := .ref (q 5)) (C := RX0) (T := TX0) (N := 11) hx hb hts in_X0 hown hK hP 0 rfl rfl 4 (by decide) (hts _ q40) (fun _ h9 => h9) rfl dX0_cheapestSet_40 ?_
      refine lv_iload_n hx hb dX0_cheapestSet_43 rfl (lv_at hl 2 rfl) ?_
      refine g_iald hx hb hK hP 5 4 rfl rfl (k := k) (by omega) (by decide) dX0_cheapestSet_44 ?_
      refine g_tw (y := nI ((FL (okB w c) c).getD k 0)) (hfl k (by omega)) ?_
      refine lv_istore_n (lv' := [(1, .int (nI ((FL (okB w c) c).getD k 0))), (0, .ref (q 0)), (2, .int (nI k))]) hx hb dX0_cheapestSet_45 rfl hl (by decide) rfl (fun ls hl => ?_)
      refine lv_iinc (v := nI (k + 1)) (lv' := [(2, .int (nI (k + 1))), (1, .int (nI ((FL (okB w c) c).getD k 0))), (0, .ref (q 0))]) hx hb dX0_cheapestSet_46 hl (k := 2) rfl (inc1 _) (by decide) rfl (fun ls hl => ?_)
      refine lv_goto (tgt := 13) hx hb dX0_cheapestSet_49 (by decide) ?_
      exact ih (n - 1) _ _ _ (by omega) ⟨(k + 1), nI ((FL (okB w c) c).getD k 0), by omega, by omega, by rw [fold_take _ _ _ (by omega), ← ex]; exact (if_pos (Or.inr (Int32.not_le.mp c_36))).symm, nI_pos (by have := mem_lt (getD_mem (L := FL (okB w c) c) (i := k) (by omega)); have := pow9 hc9; omega), hP, hS, lv_sub hl [2, 1, 0] rfl⟩

set_option maxHeartbeats 4000000 in
theorem mX0_cheapest (l : Launch) (D : va_G) (q : Nat → Nat) (d : Nat → ClassId) (w : Nat → Int32) (pr : Nat → Int32) (dr : Nat → Int32) (kl : Nat → Int32) (fl : Nat → Int32) (wt : Nat → Int32) (c : Nat) (ds : Int32) (kc : Int32) (fc : Int32) (sv : Int32) (hq : gJ 7 q) (hc9 : c ≤ 9) (hsv : sv = 0 ∨ (sv = 1 ∧ ∃ y z, kc = nI y ∧ fc = nI z ∧ XSol w c kl fl y z)) : Met l yX0_cheapest (ws_ yX0_cheapest cX0_cheapest 2 (some .int)) ({ frames := 4, cells := 0, slots := 0, locals := 93 } : Room) (gPc D (xw q d w pr dr kl fl wt (nI c) ds kc fc sv) (xt d) [.ref (q 0)]) (gQi D (xwS q d) (fun (r : Int32) (u : XS) => ∃ (kl1 fl1 wt1 : Nat → Int32) (y z : Nat), u = (w, pr, dr, kl1, fl1, wt1, nI c, ds, nI y, nI z, 1) ∧ XSol w c kl1 fl1 y z ∧ r = priF pr ((FL (okB w c) c).foldl (stW (fun x => priF pr x c)) (-1)) c) (gA 7 q)) 0 0 (gA 7 q) := by
  refine g_met (by decide) (Nat.le_of_ble_eq_true rfl) ?_
  intro p e s m below meth cd hx hb hr hml hown hts hlocks hname hP hK ls hl
  have hown : s.vm.findClass RX0 = some m.cls := hown
  have hl : lv_has ls 2 [(0, .ref (q 0))] := hl
  have hS : va_S (gA 7 q) s.heap s.heap [] := va_S.rf
  refine lv_aload_n hx hb dX0_cheapest_0 rfl (lv_at hl 0 rfl) ?_
  refine g_calli (va_runV (As := []) (rest := []) ⟨hx, hb, hml, hown, hts⟩ (mX0_cheapestSet l D q d w pr dr kl fl wt c ds kc fc sv hq hc9 hsv) (cwV 0 hts (lw_V q174 q175 q176 q26 q177) rfl rfl rfl (by decide +kernel) ⟨Nat.le_of_ble_eq_true rfl, Nat.le_of_ble_eq_true rfl⟩) (x_preV _ hK hP) rfl rfl hl.1 rfl (lv_room (Nat.le_of_ble_eq_true rfl)) dX0_cheapest_1 ⟨Nat.le_of_ble_eq_true rfl, Nat.le_of_ble_eq_true rfl⟩) hS (fun x u H locs hu hP hS => ?_)
  obtain ⟨kl1, fl1, wt1, y, z, rfl, hX, hr1⟩ := hu
  have hP : va_P D vwCl (xw q d w pr dr kl1 fl1 wt1 (nI c) ds (nI y) (nI z) 1) H := hP
  refine lv_istore_n (lv' := [(1, .int x), (0, .ref (q 0))]) hx hb dX0_cheapest_4 rfl hl (by decide) rfl (fun ls hl => ?_)
  refine lv_aload_n hx hb dX0_cheapest_5 rfl (lv_at hl 1 rfl) ?_
  refine lv_iload_n hx hb dX0_cheapest_6 rfl (lv_at hl 0 rfl) ?_
  refine g_callR (W.runV (As := [.int x]) (rest := []) ⟨hx, hb, hml, hown, hts⟩ (mX0_priceOf l D q d w pr dr kl1 fl1 wt1 c ds (nI y) (nI z) 1 x hc9) (cwV 1 hts (lw_V q178 q180 qs12 q26 q181) rfl rfl rfl (by decide +kernel) ⟨Nat.le_of_ble_eq_true rfl, Nat.le_of_ble_eq_true rfl⟩) (x_preV _ hK hP) rfl rfl hl.1 rfl (lv_room (Nat.le_of_ble_eq_true rfl)) dX0_cheapest_7 ⟨Nat.le_of_ble_eq_true rfl, Nat.le_of_ble_eq_true rfl⟩) ?_
  exact g_reti (w, pr, dr, kl1, fl1, wt1, nI c, ds, nI y, nI z, 1) hx hb hr hlocks hP hS (⟨kl1, fl1, wt1, y, z, rfl, hX, by rw [hr1]⟩) dX0_cheapest_10

set_option maxHeartbeats 4000000 in
theorem mX0_smallest (l : Launch) (D : va_G) (q : Nat → Nat) (d : Nat → ClassId) (w : Nat → Int32) (pr : Nat → Int32) (dr : Nat → Int32) (kl : Nat → Int32) (fl : Nat → Int32) (wt : Nat → Int32) (c : Nat) (ds : Int32) (kc : Int32) (fc : Int32) (sv : Int32) (hq : gJ 7 q) (hc9 : c ≤ 9) (hsv : sv = 0 ∨ (sv = 1 ∧ ∃ y z, kc = nI y ∧ fc = nI z ∧ XSol w c kl fl y z)) : Met l yX0_smallest (ws_ yX0_smallest cX0_smallest 4 (some .int)) ({ frames := 3, cells := 0, slots := 0, locals := 71 } : Room) (gPc D (xw q d w pr dr kl fl wt (nI c) ds kc fc sv) (xt d) [.ref (q 0)]) (gQi D (xwS q d) (fun (r : Int32) (u : XS) => ∃ (kl1 fl1 wt1 : Nat → Int32) (y z : Nat), u = (w, pr, dr, kl1, fl1, wt1, nI c, ds, nI y, nI z, 1) ∧ XSol w c kl1 fl1 y z ∧ r = (KL (okB w c) c).foldl stS 0) (gA 7 q)) 0 0 (gA 7 q) := by
  refine g_met (by decide) (Nat.le_of_ble_eq_true rfl) ?_
  intro p e s m below meth cd hx hb hr hml hown hts hlocks hname hP hK ls hl
  have hown : s.vm.findClass RX0 = some m.cls := hown
  have hl : lv_has ls 4 [(0, .ref (q 0))] := hl
  have hS : va_S (gA 7 q) s.heap s.heap [] := va_S.rf
  refine lv_aload_n hx hb dX0_smallest_0 rfl (lv_at hl 0 rfl) ?_
  refine g_callv (va_runV (As := []) (rest := []) ⟨hx, hb, hml, hown, hts⟩ (mX0_solve l D q d w pr dr kl fl wt c ds kc fc sv hq hc9 hsv) (cwV 0 hts (lw_V q122 q124 qs3 q26 q125) rfl rfl rfl (by decide +kernel) ⟨Nat.le_of_ble_eq_true rfl, Nat.le_of_ble_eq_true rfl⟩) (x_preV _ hK hP) rfl rfl hl.1 rfl (lv_room (Nat.le_of_ble_eq_true rfl)) dX0_smallest_1 ⟨Nat.le_of_ble_eq_true rfl, Nat.le_of_ble_eq_true rfl⟩) hS (fun u H locs hu hP hS => ?_)
  obtain ⟨kl1, fl1, wt1, y, z, rfl, hX⟩ := hu
  have hP : va_P D vwCl (xw q d w pr dr kl1 fl1 wt1 (nI c) ds (nI y) (nI z) 1) H := hP
  obtain ⟨hy, hz, hkl, hfl⟩ := id hX
  have hyl : y ≤ 126 := by rw [hy]; exact KL_le hc9
  have hzl : z ≤ 126 := by rw [hz]; exact FL_le hc9
  have hz0 : 0 < z := by rw [hz]; exact FL_pos hc9
  refine lv_iconst (v := 0) hx hb dX0_smallest_4 (by decide) ?_
  refine lv_istore_n (lv' := [(1, .int 0), (0, .ref (q 0))]) hx hb dX0_smallest_5 rfl hl (by decide) rfl (fun ls hl => ?_)
  refine lv_iconst (v := 0) hx hb dX0_smallest_6 (by decide) ?_
  refine lv_istore_n (lv' := [(2, .int 0), (1, .int 0), (0, .ref (q 0))]) hx hb dX0_smallest_7 rfl hl (by decide) rfl (fun ls hl => ?_)
  refine g_loopH (pc := 8) (P := fun n H locs ls => ∃ (k : Nat) (x : Int32), (k + n = y) ∧ (x = ((KL (okB w c) c).take k).foldl stS 0) ∧ va_P D vwCl (xw q d w pr dr kl1 fl1 wt1 (nI c) ds (nI y) (nI z) 1) H ∧ va_S (gA 7 q) s.heap H locs ∧ lv_has ls 4 [(0, .ref (q 0)), (1, .int x), (2, .int (nI k))]) ?_ (y) _ _ _ ⟨0, 0, Nat.zero_add _, rfl, hP, hS, lv_sub hl [2, 1, 0] rfl⟩
  intro n H locs ls hh ih
  obtain ⟨k, x, hk, ex, hP, hS, hl⟩ := hh
  refine lv_iload_n hx hb dX0_smallest_8 rfl (lv_at hl 2 rfl) ?_
  refine lv_aload_n hx hb dX0_smallest_9 rfl (lv_at hl 0 rfl) ?_
  refine va_get (D := D) (ci := 0) (v := .int (nI y)) (C := RX0) (T := TX0) (N := 11) hx hb hts in_X0 hown hK hP 0 rfl rfl 8 (by decide) (hts _ q44) (fun _ h9 => h9) rfl dX0_smallest_10 ?_
  refine lv_icmp_ge (tgt := 47) hx hb dX0_smallest_13 (by decide) (fun c_13 => ?_) (fun c_13 => ?_)
  · have hkc : k = y := c_eq (by omega) (by omega) c_13
    refine lv_iload_n hx hb dX0_smallest_47 rfl (lv_at hl 1 rfl) ?_
    exact g_reti (w, pr, dr, kl1, fl1, wt1, nI c, ds, nI y, nI z, 1) hx hb hr hlocks hP hS (⟨kl1, fl1, wt1, y, z, rfl, hX, by rw [ex, hkc, hy, List.take_length]⟩) dX0_smallest_48
  · have hlt : k < y := c_lt (by omega) (by omega) c_13
    refine lv_aload_n hx hb dX0_smallest_16 rfl (lv_at hl 0 rfl) ?_
    refine va_get (D := D) (ci := 0) (v := .ref (q 4)) (C := RX0) (T := TX0) (N := 11) hx hb hts in_X0 hown hK hP 0 rfl rfl 3 (by decide) (hts _ q39) (fun _ h9 => h9) rfl dX0_smallest_17 ?_
    refine lv_iload_n hx hb dX0_smallest_20 rfl (lv_at hl 2 rfl) ?_
    refine g_iald hx hb hK hP 4 3 rfl rfl (k := k) (by omega) (by decide) dX0_smallest_21 ?_
    refine g_tw (y := nI ((KL (okB w c) c).getD k 0)) (hkl k (by omega)) ?_
    refine g_callR (W.runS (As := [.int (nI ((KL (okB w c) c).getD k 0))]) (rest := []) ⟨hx, hb, hml, hown, hts⟩ (mX0_ones l (nI ((KL (okB w c) c).getD k 0))) (va_cwS 1 hts (lw_S q187 q188 q26 q189) rfl rfl rfl (by decide +kernel) ⟨Nat.le_of_ble_eq_true rfl, Nat.le_of_ble_eq_true rfl⟩) s_pre rfl rfl hl.1 rfl (lv_room (Nat.le_of_ble_eq_true rfl)) dX0_smallest_22 ⟨Nat.le_of_ble_eq_true rfl, Nat.le_of_ble_eq_true rfl⟩) ?_
    refine lv_istore_n (lv' := [(3, .int (onesF (nI ((KL (okB w c) c).getD k 0)) 9)), (0, .ref (q 0)), (1, .int x), (2, .int (nI k))]) hx hb dX0_smallest_25 rfl hl (by decide) rfl (fun ls hl => ?_)
    refine lv_iload_n hx hb dX0_smallest_26 rfl (lv_at hl 2 rfl) ?_
    refine lv_if_eq (tgt := 35) hx hb dX0_smallest_27 (by decide) (fun c_27 => ?_) (fun c_27 => ?_)
    · refine lv_iload_n hx hb dX0_smallest_35 rfl (lv_at hl 0 rfl) ?_
      refine lv_goto (tgt := 40) hx hb dX0_smallest_36 (by decide) ?_
      refine lv_istore_n (lv' := [(1, .int (onesF (nI ((KL (okB w c) c).getD k 0)) 9)), (3, .int (onesF (nI ((KL (okB w c) c).getD k 0)) 9)), (0, .ref (q 0)), (2, .int (nI k))]) hx hb dX0_smallest_40 rfl hl (by decide) rfl (fun ls hl => ?_)
      refine lv_iinc (v := nI (k + 1)) (lv' := [(2, .int (nI (k + 1))), (1, .int (onesF (nI ((KL (okB w c) c).getD k 0)) 9)), (3, .int (onesF (nI ((KL (okB w c) c).getD k 0)) 9)), (0, .ref (q 0))]) hx hb dX0_smallest_41 hl (k := 3) rfl (inc1 _) (by decide) rfl (fun ls hl => ?_)
      refine lv_goto (tgt := 8) hx hb dX0_smallest_44 (by decide) ?_
      exact ih (n - 1) _ _ _ (by omega) ⟨(k + 1), (onesF (nI ((KL (okB w c) c).getD k 0)) 9), by omega, by rw [fold_take _ _ _ (by omega), ← ex]; exact (if_pos (Or.inl c_27)).symm, hP, hS, lv_sub hl [3, 1, 0] rfl⟩
    · refine lv_iload_n hx hb dX0_smallest_30 rfl (lv_at hl 0 rfl) ?_
      refine lv_iload_n hx hb dX0_smallest_31 rfl (lv_at hl 2 rfl) ?_
      refine lv_icmp_ge (tgt := 39) hx hb dX0_smallest_32 (by decide) (fun c_32 => ?_) (fun c_32 => ?_)
      · refine lv_iload_n hx hb dX0_smallest_39 rfl (lv_at hl 2 rfl) ?_
        refine lv_istore_n (lv' := [(1, .int x), (3, .int (onesF (nI ((KL (okB w c) c).getD k 0)) 9)), (0, .ref (q 0)), (2, .int (nI k))]) hx hb dX0_smallest_40 rfl hl (by decide) rfl (fun ls hl => ?_)
        refine lv_iinc (v := nI (k + 1)) (lv' := [(2, .int (nI (k + 1))), (1, .int x), (3, .int (onesF (nI ((KL (okB w c) c).getD k 0)) 9)), (0, .ref (q 0))]) hx hb dX0_smallest_41 hl (k := 3) rfl (inc1 _) (by decide) rfl (fun ls hl => ?_)
        refine lv_goto (tgt := 8) hx hb dX0_smallest_44 (by decide) ?_
        exact ih (n - 1) _ _ _ (by omega) ⟨(k + 1), x, by omega, by rw [fold_take _ _ _ (by omega), ← ex]; exact (if_neg (fun q => q.elim c_27 (Int32.not_lt.mpr c_32))).symm, hP, hS, lv_sub hl [3, 1, 0] rfl⟩
      · refine lv_iload_n hx hb dX0_smallest_35 rfl (lv_at hl 0 rfl) ?_
        refine lv_goto (tgt := 40) hx hb dX0_smallest_36 (by decide) ?_
        refine lv_istore_n (lv' := [(1, .int (onesF (nI ((KL (okB w c) c).getD k 0)) 9)), (3, .int (onesF (nI ((KL (okB w c) c).getD k 0)) 9)), (0, .ref (q 0)), (2, .int (nI k))]) hx hb dX0_smallest_40 rfl hl (by decide) rfl (fun ls hl => ?_)
        refine lv_iinc (v := nI (k + 1)) (lv' := [(2, .int (nI (k + 1))), (1, .int (onesF (nI ((KL (okB w c) c).getD k 0)) 9)), (3, .int (onesF (nI ((KL (okB w c) c).getD k 0)) 9)), (0, .ref (q 0))]) hx hb dX0_smallest_41 hl (k := 3) rfl (inc1 _) (by decide) rfl (fun ls hl => ?_)
        refine lv_goto (tgt := 8) hx hb dX0_smallest_44 (by decide) ?_
        exact ih (n - 1) _ _ _ (by omega) ⟨(k + 1), (onesF (nI ((KL (okB w c) c).getD k 0)) 9), by omega, by rw [fold_take _ _ _ (by omega), ← ex]; exact (if_pos (Or.inr (Int32.not_le.mp c_32))).symm, hP, hS, lv_sub hl [3, 1, 0] rfl⟩

set_option maxHeartbeats 4000000 in
theorem mX0_blame (l : Launch) (D : va_G) (q : Nat → Nat) (d : Nat → ClassId) (w : Nat → Int32) (pr : Nat → Int32) (dr : Nat → Int32) (kl : Nat → Int32) (fl : Nat → Int32) (wt : Nat → Int32) (c : Nat) (ds : Int32) (kc : Int32) (fc : Int32) (sv : Int32) (p0 : Int32) (hq : gJ 7 q) (hc9 : c ≤ 9) (hsv : sv = 0 ∨ (sv = 1 ∧ ∃ y z, kc = nI y ∧ fc = nI z ∧ XSol w c kl fl y z)) : Met l yX0_blame (ws_ yX0_blame cX0_blame 4 (some .int)) ({ frames := 3, cells := 0, slots := 0, locals := 71 } : Room) (gPc D (xw q d w pr dr kl fl wt (nI c) ds kc fc sv) (xt d) [.ref (q 0), .int p0]) (gQi D (xwS q d) (fun (r : Int32) (u : XS) => (isG p0 (nI c) = 0 ∧ r = -1 ∧ u = (w, pr, dr, kl, fl, wt, nI c, ds, kc, fc, sv)) ∨ ¬ isG p0 (nI c) = 0 ∧ ∃ (kl1 fl1 wt1 : Nat → Int32) (y z : Nat), u = (w, pr, dr, kl1, fl1, wt1, nI c, ds, nI y, nI z, 1) ∧ XSol w c kl1 fl1 y z ∧ r = (KL (okB w c) c).foldl (stB p0) 0) (gA 7 q)) 0 0 (gA 7 q) := by
  refine g_met (by decide) (Nat.le_of_ble_eq_true rfl) ?_
  intro p e s m below meth cd hx hb hr hml hown hts hlocks hname hP hK ls hl
  have hown : s.vm.findClass RX0 = some m.cls := hown
  have hl : lv_has ls 4 [(0, .ref (q 0)), (1, .int p0)] := hl
  have hS : va_S (gA 7 q) s.heap s.heap [] := va_S.rf
  refine lv_aload_n hx hb dX0_blame_0 rfl (lv_at hl 0 rfl) ?_
  refine lv_iload_n hx hb dX0_blame_1 rfl (lv_at hl 1 rfl) ?_
  refine g_callR (W.runV (As := [.int p0]) (rest := []) ⟨hx, hb, hml, hown, hts⟩ (mX0_isGood l D q d w pr dr kl fl wt c ds kc fc sv p0) (cwV 1 hts (lw_V q90 q92 qs0 q26 q93) rfl rfl rfl (by decide +kernel) ⟨Nat.le_of_ble_eq_true rfl, Nat.le_of_ble_eq_true rfl⟩) (x_preV _ hK hP) rfl rfl hl.1 rfl (lv_room (Nat.le_of_ble_eq_true rfl)) dX0_blame_2 ⟨Nat.le_of_ble_eq_true rfl, Nat.le_of_ble_eq_true rfl⟩) ?_
  refine lv_if_ne (tgt := 10) hx hb dX0_blame_5 (by decide) (fun c_5 => ?_) (fun c_5 => ?_)
  · refine lv_aload_n hx hb dX0_blame_10 rfl (lv_at hl 0 rfl) ?_
    refine g_callv (va_runV (As := []) (rest := []) ⟨hx, hb, hml, hown, hts⟩ (mX0_solve l D q d w pr dr kl fl wt c ds kc fc sv hq hc9 hsv) (cwV 0 hts (lw_V q122 q124 qs3 q26 q125) rfl rfl rfl (by decide +kernel) ⟨Nat.le_of_ble_eq_true rfl, Nat.le_of_ble_eq_true rfl⟩) (x_preV _ hK hP) rfl rfl hl.1 rfl (lv_room (Nat.le_of_ble_eq_true rfl)) dX0_blame_11 ⟨Nat.le_of_ble_eq_true rfl, Nat.le_of_ble_eq_true rfl⟩) hS (fun u H locs hu hP hS => ?_)
    obtain ⟨kl1, fl1, wt1, y, z, rfl, hX⟩ := hu
    have hP : va_P D vwCl (xw q d w pr dr kl1 fl1 wt1 (nI c) ds (nI y) (nI z) 1) H := hP
    obtain ⟨hy, hz, hkl, hfl⟩ := id hX
    have hyl : y ≤ 126 := by rw [hy]; exact KL_le hc9
    have hzl : z ≤ 126 := by rw [hz]; exact FL_le hc9
    have hz0 : 0 < z := by rw [hz]; exact FL_pos hc9
    refine lv_iconst (v := 0) hx hb dX0_blame_14 (by decide) ?_
    refine lv_istore_n (lv' := [(2, .int 0), (0, .ref (q 0)), (1, .int p0)]) hx hb dX0_blame_15 rfl hl (by decide) rfl (fun ls hl => ?_)
    refine lv_iconst (v := 0) hx hb dX0_blame_16 (by decide) ?_
    refine lv_istore_n (lv' := [(3, .int 0), (2, .int 0), (0, .ref (q 0)), (1, .int p0)]) hx hb dX0_blame_17 rfl hl (by decide) rfl (fun ls hl => ?_)
    refine g_loopH (pc := 18) (P := fun n H locs ls => ∃ (k : Nat) (x : Int32), (k + n = y) ∧ (x = ((KL (okB w c) c).take k).foldl (stB p0) 0) ∧ va_P D vwCl (xw q d w pr dr kl1 fl1 wt1 (nI c) ds (nI y) (nI z) 1) H ∧ va_S (gA 7 q) s.heap H locs ∧ lv_has ls 4 [(0, .ref (q 0)), (1, .int p0), (2, .int x), (3, .int (nI k))]) ?_ (y) _ _ _ ⟨0, 0, Nat.zero_add _, rfl, hP, hS, lv_sub hl [2, 3, 1, 0] rfl⟩
    intro n H locs ls hh ih
    obtain ⟨k, x, hk, ex, hP, hS, hl⟩ := hh
    refine lv_iload_n hx hb dX0_blame_18 rfl (lv_at hl 3 rfl) ?_
    refine lv_aload_n hx hb dX0_blame_19 rfl (lv_at hl 0 rfl) ?_
    refine va_get (D := D) (ci := 0) (v := .int (nI y)) (C := RX0) (T := TX0) (N := 11) hx hb hts in_X0 hown hK hP 0 rfl rfl 8 (by decide) (hts _ q44) (fun _ h9 => h9) rfl dX0_blame_20 ?_
    refine lv_icmp_ge (tgt := 45) hx hb dX0_blame_23 (by decide) (fun c_23 => ?_) (fun c_23 => ?_)
    · have hkc : k = y := c_eq (by omega) (by omega) c_23
      refine lv_iload_n hx hb dX0_blame_45 rfl (lv_at hl 2 rfl) ?_
      exact g_reti (w, pr, dr, kl1, fl1, wt1, nI c, ds, nI y, nI z, 1) hx hb hr hlocks hP hS (Or.inr ⟨c_5, ⟨kl1, fl1, wt1, y, z, rfl, hX, by rw [ex, hkc, hy, List.take_length]⟩⟩) dX0_blame_46
    · have hlt : k < y := c_lt (by omega) (by omega) c_23
      refine lv_iload_n hx hb dX0_blame_26 rfl (lv_at hl 2 rfl) ?_
      refine lv_aload_n hx hb dX0_blame_27 rfl (lv_at hl 0 rfl) ?_
      refine va_get (D := D) (ci := 0) (v := .ref (q 4)) (C := RX0) (T := TX0) (N := 11) hx hb hts in_X0 hown hK hP 0 rfl rfl 3 (by decide) (hts _ q39) (fun _ h9 => h9) rfl dX0_blame_28 ?_
      refine lv_iload_n hx hb dX0_blame_31 rfl (lv_at hl 3 rfl) ?_
      refine g_iald hx hb hK hP 4 3 rfl rfl (k := k) (by omega) (by decide) dX0_blame_32 ?_
      refine g_tw (y := nI ((KL (okB w c) c).getD k 0)) (hkl k (by omega)) ?_
      refine lv_iload_n hx hb dX0_blame_33 rfl (lv_at hl 1 rfl) ?_
      refine lv_ishr hx hb dX0_blame_34 ?_
      refine lv_iconst (v := 1) hx hb dX0_blame_35 (by decide) ?_
      refine lv_iand hx hb dX0_blame_36 ?_
      refine lv_iadd hx hb dX0_blame_37 ?_
      refine lv_istore_n (lv' := [(2, .int (x + (((nI ((KL (okB w c) c).getD k 0)) >>> (p0 &&& 31)) &&& 1))), (0, .ref (q 0)), (1, .int p0), (3, .int (nI k))]) hx hb dX0_blame_38 rfl hl (by decide) rfl (fun ls hl => ?_)
      refine lv_iinc (v := nI (k + 1)) (lv' := [(3, .int (nI (k + 1))), (2, .int (x + (((nI ((KL (okB w c) c).getD k 0)) >>> (p0 &&& 31)) &&& 1))), (0, .ref (q 0)), (1, .int p0)]) hx hb dX0_blame_39 hl (k := 3) rfl (inc1 _) (by decide) rfl (fun ls hl => ?_)
      refine lv_goto (tgt := 18) hx hb dX0_blame_42 (by decide) ?_
      exact ih (n - 1) _ _ _ (by omega) ⟨(k + 1), (x + (((nI ((KL (okB w c) c).getD k 0)) >>> (p0 &&& 31)) &&& 1)), by omega, by rw [fold_take _ _ _ (by omega), ← ex]; rfl, hP, hS, lv_sub hl [2, 3, 1, 0] rfl⟩
  · refine lv_iconst (v := (-1)) hx hb dX0_blame_8 (by decide) ?_
    exact g_reti (w, pr, dr, kl, fl, wt, nI c, ds, kc, fc, sv) hx hb hr hlocks hP hS (Or.inl ⟨c_5, rfl, rfl⟩) dX0_blame_9

set_option maxHeartbeats 4000000 in
theorem mX0_core (l : Launch) (D : va_G) (q : Nat → Nat) (d : Nat → ClassId) (w : Nat → Int32) (pr : Nat → Int32) (dr : Nat → Int32) (kl : Nat → Int32) (fl : Nat → Int32) (wt : Nat → Int32) (c : Nat) (ds : Int32) (kc : Int32) (fc : Int32) (sv : Int32) (hq : gJ 7 q) (hc9 : c ≤ 9) (hsv : sv = 0 ∨ (sv = 1 ∧ ∃ y z, kc = nI y ∧ fc = nI z ∧ XSol w c kl fl y z)) : Met l yX0_core (ws_ yX0_core cX0_core 3 (some .int)) ({ frames := 3, cells := 0, slots := 0, locals := 71 } : Room) (gPc D (xw q d w pr dr kl fl wt (nI c) ds kc fc sv) (xt d) [.ref (q 0)]) (gQi D (xwS q d) (fun (r : Int32) (u : XS) => ∃ (kl1 fl1 wt1 : Nat → Int32) (y z : Nat), u = (w, pr, dr, kl1, fl1, wt1, nI c, ds, nI y, nI z, 1) ∧ XSol w c kl1 fl1 y z ∧ r = (KL (okB w c) c).foldl stA (nI (2 ^ c - 1))) (gA 7 q)) 0 0 (gA 7 q) := by
  refine g_met (by decide) (Nat.le_of_ble_eq_true rfl) ?_
  intro p e s m below meth cd hx hb hr hml hown hts hlocks hname hP hK ls hl
  have hown : s.vm.findClass RX0 = some m.cls := hown
  have hl : lv_has ls 3 [(0, .ref (q 0))] := hl
  have hS : va_S (gA 7 q) s.heap s.heap [] := va_S.rf
  refine lv_aload_n hx hb dX0_core_0 rfl (lv_at hl 0 rfl) ?_
  refine g_callv (va_runV (As := []) (rest := []) ⟨hx, hb, hml, hown, hts⟩ (mX0_solve l D q d w pr dr kl fl wt c ds kc fc sv hq hc9 hsv) (cwV 0 hts (lw_V q122 q124 qs3 q26 q125) rfl rfl rfl (by decide +kernel) ⟨Nat.le_of_ble_eq_true rfl, Nat.le_of_ble_eq_true rfl⟩) (x_preV _ hK hP) rfl rfl hl.1 rfl (lv_room (Nat.le_of_ble_eq_true rfl)) dX0_core_1 ⟨Nat.le_of_ble_eq_true rfl, Nat.le_of_ble_eq_true rfl⟩) hS (fun u H locs hu hP hS => ?_)
  obtain ⟨kl1, fl1, wt1, y, z, rfl, hX⟩ := hu
  have hP : va_P D vwCl (xw q d w pr dr kl1 fl1 wt1 (nI c) ds (nI y) (nI z) 1) H := hP
  obtain ⟨hy, hz, hkl, hfl⟩ := id hX
  have hyl : y ≤ 126 := by rw [hy]; exact KL_le hc9
  have hzl : z ≤ 126 := by rw [hz]; exact FL_le hc9
  have hz0 : 0 < z := by rw [hz]; exact FL_pos hc9
  refine lv_iconst (v := 1) hx hb dX0_core_4 (by decide) ?_
  refine lv_aload_n hx hb dX0_core_5 rfl (lv_at hl 0 rfl) ?_
  refine va_get (D := D) (ci := 0) (v := .int (nI c)) (C := RX0) (T := TX0) (N := 11) hx hb hts in_X0 hown hK hP 0 rfl rfl 6 (by decide) (hts _ q42) (fun _ h9 => h9) rfl dX0_core_6 ?_
  refine lv_ishl hx hb dX0_core_9 ?_
  refine lv_iconst (v := 1) hx hb dX0_core_10 (by decide) ?_
  refine lv_isub hx hb dX0_core_11 ?_
  refine g_tw (y := nI (2 ^ c - 1)) (all_I hc9) ?_
  refine lv_istore_n (lv' := [(1, .int (nI (2 ^ c - 1))), (0, .ref (q 0))]) hx hb dX0_core_12 rfl hl (by decide) rfl (fun ls hl => ?_)
  refine lv_iconst (v := 0) hx hb dX0_core_13 (by decide) ?_
  refine lv_istore_n (lv' := [(2, .int 0), (1, .int (nI (2 ^ c - 1))), (0, .ref (q 0))]) hx hb dX0_core_14 rfl hl (by decide) rfl (fun ls hl => ?_)
  refine g_loopH (pc := 15) (P := fun n H locs ls => ∃ (k : Nat) (x : Int32), (k + n = y) ∧ (x = ((KL (okB w c) c).take k).foldl stA (nI (2 ^ c - 1))) ∧ va_P D vwCl (xw q d w pr dr kl1 fl1 wt1 (nI c) ds (nI y) (nI z) 1) H ∧ va_S (gA 7 q) s.heap H locs ∧ lv_has ls 3 [(0, .ref (q 0)), (1, .int x), (2, .int (nI k))]) ?_ (y) _ _ _ ⟨0, nI (2 ^ c - 1), Nat.zero_add _, rfl, hP, hS, lv_sub hl [2, 1, 0] rfl⟩
  intro n H locs ls hh ih
  obtain ⟨k, x, hk, ex, hP, hS, hl⟩ := hh
  refine lv_iload_n hx hb dX0_core_15 rfl (lv_at hl 2 rfl) ?_
  refine lv_aload_n hx hb dX0_core_16 rfl (lv_at hl 0 rfl) ?_
  refine va_get (D := D) (ci := 0) (v := .int (nI y)) (C := RX0) (T := TX0) (N := 11) hx hb hts in_X0 hown hK hP 0 rfl rfl 8 (by decide) (hts _ q44) (fun _ h9 => h9) rfl dX0_core_17 ?_
  refine lv_icmp_ge (tgt := 38) hx hb dX0_core_20 (by decide) (fun c_20 => ?_) (fun c_20 => ?_)
  · have hkc : k = y := c_eq (by omega) (by omega) c_20
    refine lv_iload_n hx hb dX0_core_38 rfl (lv_at hl 1 rfl) ?_
    exact g_reti (w, pr, dr, kl1, fl1, wt1, nI c, ds, nI y, nI z, 1) hx hb hr hlocks hP hS (⟨kl1, fl1, wt1, y, z, rfl, hX, by rw [ex, hkc, hy, List.take_length]⟩) dX0_core_39
  · have hlt : k < y := c_lt (by omega) (by omega) c_20
    refine lv_iload_n hx hb dX0_core_23 rfl (lv_at hl 1 rfl) ?_
    refine lv_aload_n hx hb dX0_core_24 rfl (lv_at hl 0 rfl) ?_
    refine va_get (D := D) (ci := 0) (v := .ref (q 4)) (C := RX0) (T := TX0) (N := 11) hx hb hts in_X0 hown hK hP 0 rfl rfl 3 (by decide) (hts _ q39) (fun _ h9 => h9) rfl dX0_core_25 ?_
    refine lv_iload_n hx hb dX0_core_28 rfl (lv_at hl 2 rfl) ?_
    refine g_iald hx hb hK hP 4 3 rfl rfl (k := k) (by omega) (by decide) dX0_core_29 ?_
    refine g_tw (y := nI ((KL (okB w c) c).getD k 0)) (hkl k (by omega)) ?_
    refine lv_iand hx hb dX0_core_30 ?_
    refine lv_istore_n (lv' := [(1, .int (x &&& (nI ((KL (okB w c) c).getD k 0)))), (0, .ref (q 0)), (2, .int (nI k))]) hx hb dX0_core_31 rfl hl (by decide) rfl (fun ls hl => ?_)
    refine lv_iinc (v := nI (k + 1)) (lv' := [(2, .int (nI (k + 1))), (1, .int (x &&& (nI ((KL (okB w c) c).getD k 0)))), (0, .ref (q 0))]) hx hb dX0_core_32 hl (k := 2) rfl (inc1 _) (by decide) rfl (fun ls hl => ?_)
    refine lv_goto (tgt := 15) hx hb dX0_core_35 (by decide) ?_
    exact ih (n - 1) _ _ _ (by omega) ⟨(k + 1), (x &&& (nI ((KL (okB w c) c).getD k 0))), by omega, by rw [fold_take _ _ _ (by omega), ← ex]; rfl, hP, hS, lv_sub hl [2, 1, 0] rfl⟩

set_option maxHeartbeats 4000000 in
theorem mX0_sort (l : Launch) (D : va_G) (q : Nat → Nat) (d : Nat → ClassId) (w : Nat → Int32) (pr : Nat → Int32) (dr : Nat → Int32) (kl : Nat → Int32) (fl : Nat → Int32) (wt : Nat → Int32) (c : Nat) (ds : Int32) (kc : Int32) (fc : Int32) (sv : Int32) (p0 : Int32) (hq : gJ 7 q) (hc9 : c ≤ 9) (hsv : sv = 0 ∨ (sv = 1 ∧ ∃ y z, kc = nI y ∧ fc = nI z ∧ XSol w c kl fl y z)) : Met l yX0_sort (ws_ yX0_sort cX0_sort 3 (some .int)) ({ frames := 3, cells := 0, slots := 0, locals := 71 } : Room) (gPc D (xw q d w pr dr kl fl wt (nI c) ds kc fc sv) (xt d) [.ref (q 0), .int p0]) (gQi D (xwS q d) (fun (r : Int32) (u : XS) => (isT p0 c = 0 ∧ r = -1 ∧ u = (w, pr, dr, kl, fl, wt, nI c, ds, kc, fc, sv)) ∨ ¬ isT p0 c = 0 ∧ ∃ (kl1 fl1 wt1 : Nat → Int32) (y z : Nat), u = (w, pr, dr, kl1, fl1, wt1, nI c, ds, nI y, nI z, 1) ∧ XSol w c kl1 fl1 y z ∧ r = (if isK (okB w c) c p0.toNatClampNeg then 1 else if isC (okB w c) c p0.toNatClampNeg then 2 else 0)) (gA 7 q)) 0 0 (gA 7 q) := by
  refine g_met (by decide) (Nat.le_of_ble_eq_true rfl) ?_
  intro p e s m below meth cd hx hb hr hml hown hts hlocks hname hP hK ls hl
  have hown : s.vm.findClass RX0 = some m.cls := hown
  have hl : lv_has ls 3 [(0, .ref (q 0)), (1, .int p0)] := hl
  have hS : va_S (gA 7 q) s.heap s.heap [] := va_S.rf
  refine lv_aload_n hx hb dX0_sort_0 rfl (lv_at hl 0 rfl) ?_
  refine lv_iload_n hx hb dX0_sort_1 rfl (lv_at hl 1 rfl) ?_
  refine g_callR (W.runV (As := [.int p0]) (rest := []) ⟨hx, hb, hml, hown, hts⟩ (mX0_isSet l D q d w pr dr kl fl wt c ds kc fc sv p0) (cwV 1 hts (lw_V q106 q108 qs1 q26 q109) rfl rfl rfl (by decide +kernel) ⟨Nat.le_of_ble_eq_true rfl, Nat.le_of_ble_eq_true rfl⟩) (x_preV _ hK hP) rfl rfl hl.1 rfl (lv_room (Nat.le_of_ble_eq_true rfl)) dX0_sort_2 ⟨Nat.le_of_ble_eq_true rfl, Nat.le_of_ble_eq_true rfl⟩) ?_
  refine lv_if_ne (tgt := 10) hx hb dX0_sort_5 (by decide) (fun c_5 => ?_) (fun c_5 => ?_)
  · obtain ⟨t, ht, hp⟩ := isT_t hc9 c_5
    have h512 := pow9 hc9
    have hpt : p0.toNatClampNeg = t := by rw [hp]; exact nI_clamp (by omega)
    refine lv_aload_n hx hb dX0_sort_10 rfl (lv_at hl 0 rfl) ?_
    refine g_callv (va_runV (As := []) (rest := []) ⟨hx, hb, hml, hown, hts⟩ (mX0_solve l D q d w pr dr kl fl wt c ds kc fc sv hq hc9 hsv) (cwV 0 hts (lw_V q122 q124 qs3 q26 q125) rfl rfl rfl (by decide +kernel) ⟨Nat.le_of_ble_eq_true rfl, Nat.le_of_ble_eq_true rfl⟩) (x_preV _ hK hP) rfl rfl hl.1 rfl (lv_room (Nat.le_of_ble_eq_true rfl)) dX0_sort_11 ⟨Nat.le_of_ble_eq_true rfl, Nat.le_of_ble_eq_true rfl⟩) hS (fun u H locs hu hP hS => ?_)
    obtain ⟨kl1, fl1, wt1, y, z, rfl, hX⟩ := hu
    have hP : va_P D vwCl (xw q d w pr dr kl1 fl1 wt1 (nI c) ds (nI y) (nI z) 1) H := hP
    obtain ⟨hy, hz, hkl, hfl⟩ := id hX
    have hyl : y ≤ 126 := by rw [hy]; exact KL_le hc9
    have hzl : z ≤ 126 := by rw [hz]; exact FL_le hc9
    have hz0 : 0 < z := by rw [hz]; exact FL_pos hc9
    refine lv_iconst (v := 0) hx hb dX0_sort_14 (by decide) ?_
    refine lv_istore_n (lv' := [(2, .int 0), (0, .ref (q 0)), (1, .int p0)]) hx hb dX0_sort_15 rfl hl (by decide) rfl (fun ls hl => ?_)
    refine g_loopH (pc := 16) (P := fun n H locs ls => ∃ (k : Nat), (k + n = y) ∧ (∀ i, i < k → ¬ kl1 i = p0) ∧ va_P D vwCl (xw q d w pr dr kl1 fl1 wt1 (nI c) ds (nI y) (nI z) 1) H ∧ va_S (gA 7 q) s.heap H locs ∧ lv_has ls 3 [(0, .ref (q 0)), (1, .int p0), (2, .int (nI k))]) ?_ (y) _ _ _ ⟨0, Nat.zero_add _, fun i h => absurd h (Nat.not_lt_zero i), hP, hS, lv_sub hl [1, 2, 0] rfl⟩
    intro n H locs ls hh ih
    obtain ⟨k, hk, hno, hP, hS, hl⟩ := hh
    refine lv_iload_n hx hb dX0_sort_16 rfl (lv_at hl 2 rfl) ?_
    refine lv_aload_n hx hb dX0_sort_17 rfl (lv_at hl 0 rfl) ?_
    refine va_get (D := D) (ci := 0) (v := .int (nI y)) (C := RX0) (T := TX0) (N := 11) hx hb hts in_X0 hown hK hP 0 rfl rfl 8 (by decide) (hts _ q44) (fun _ h9 => h9) rfl dX0_sort_18 ?_
    refine lv_icmp_ge (tgt := 42) hx hb dX0_sort_21 (by decide) (fun c_21 => ?_) (fun c_21 => ?_)
    · have hkc : k = y := c_eq (by omega) (by omega) c_21
      have hnK : isK (okB w c) c t = false := lst_no hkl (by omega) ht (fun i hi => by rw [← hp]; have hi2 : i < (KL (okB w c) c).length := hi; exact hno i (by omega))
      refine lv_iconst (v := 0) hx hb dX0_sort_42 (by decide) ?_
      refine lv_istore_n (lv' := [(2, .int 0), (0, .ref (q 0)), (1, .int p0)]) hx hb dX0_sort_43 rfl hl (by decide) rfl (fun ls hl => ?_)
      refine g_loopH (pc := 44) (P := fun n H locs ls => ∃ (k : Nat), (k + n = z) ∧ (∀ i, i < k → ¬ fl1 i = p0) ∧ va_P D vwCl (xw q d w pr dr kl1 fl1 wt1 (nI c) ds (nI y) (nI z) 1) H ∧ va_S (gA 7 q) s.heap H locs ∧ lv_has ls 3 [(0, .ref (q 0)), (1, .int p0), (2, .int (nI k))]) ?_ (z) _ _ _ ⟨0, Nat.zero_add _, fun i h => absurd h (Nat.not_lt_zero i), hP, hS, lv_sub hl [1, 2, 0] rfl⟩
      intro n H locs ls hh ih
      obtain ⟨k, hk, hno, hP, hS, hl⟩ := hh
      refine lv_iload_n hx hb dX0_sort_44 rfl (lv_at hl 2 rfl) ?_
      refine lv_aload_n hx hb dX0_sort_45 rfl (lv_at hl 0 rfl) ?_
      refine va_get (D := D) (ci := 0) (v := .int (nI z)) (C := RX0) (T := TX0) (N := 11) hx hb hts in_X0 hown hK hP 0 rfl rfl 9 (by decide) (hts _ q45) (fun _ h9 => h9) rfl dX0_sort_46 ?_
      refine lv_icmp_ge (tgt := 70) hx hb dX0_sort_49 (by decide) (fun c_49 => ?_) (fun c_49 => ?_)
      · have hkc : k = z := c_eq (by omega) (by omega) c_49
        have hnC : isC (okB w c) c t = false := lst_no hfl (by omega) ht (fun i hi => by rw [← hp]; have hi2 : i < (FL (okB w c) c).length := hi; exact hno i (by omega))
        refine lv_iconst (v := 0) hx hb dX0_sort_70 (by decide) ?_
        exact g_reti (w, pr, dr, kl1, fl1, wt1, nI c, ds, nI y, nI z, 1) hx hb hr hlocks hP hS (Or.inr ⟨c_5, ⟨kl1, fl1, wt1, y, z, rfl, hX, by rw [hpt, hnK, hnC]; rfl⟩⟩) dX0_sort_71
      · have hlt : k < z := c_lt (by omega) (by omega) c_49
        refine lv_aload_n hx hb dX0_sort_52 rfl (lv_at hl 0 rfl) ?_
        refine va_get (D := D) (ci := 0) (v := .ref (q 5)) (C := RX0) (T := TX0) (N := 11) hx hb hts in_X0 hown hK hP 0 rfl rfl 4 (by decide) (hts _ q40) (fun _ h9 => h9) rfl dX0_sort_53 ?_
        refine lv_iload_n hx hb dX0_sort_56 rfl (lv_at hl 2 rfl) ?_
        refine g_iald hx hb hK hP 5 4 rfl rfl (k := k) (by omega) (by decide) dX0_sort_57 ?_
        refine lv_iload_n hx hb dX0_sort_58 rfl (lv_at hl 1 rfl) ?_
        refine lv_icmp_ne (tgt := 64) hx hb dX0_sort_59 (by decide) (fun c_59 => ?_) (fun c_59 => ?_)
        · refine lv_iinc (v := nI (k + 1)) (lv' := [(2, .int (nI (k + 1))), (0, .ref (q 0)), (1, .int p0)]) hx hb dX0_sort_64 hl (k := 2) rfl (inc1 _) (by decide) rfl (fun ls hl => ?_)
          refine lv_goto (tgt := 44) hx hb dX0_sort_67 (by decide) ?_
          exact ih (n - 1) _ _ _ (by omega) ⟨(k + 1), by omega, fun i hi => by rcases Nat.eq_or_lt_of_le (Nat.le_of_lt_succ hi) with r | r; (subst r; exact c_59); exact hno i r, hP, hS, lv_sub hl [1, 2, 0] rfl⟩
        · have hyC : isC (okB w c) c t = true := lst_yes hfl (by omega) ht (k := k) (show k < (FL (okB w c) c).length by omega) (by rw [← hp]; exact c_59)
          refine lv_iconst (v := 2) hx hb dX0_sort_62 (by decide) ?_
          exact g_reti (w, pr, dr, kl1, fl1, wt1, nI c, ds, nI y, nI z, 1) hx hb hr hlocks hP hS (Or.inr ⟨c_5, ⟨kl1, fl1, wt1, y, z, rfl, hX, by rw [hpt, hnK, hyC]; rfl⟩⟩) dX0_sort_63
    · have hlt : k < y := c_lt (by omega) (by omega) c_21
      refine lv_aload_n hx hb dX0_sort_24 rfl (lv_at hl 0 rfl) ?_
      refine va_get (D := D) (ci := 0) (v := .ref (q 4)) (C := RX0) (T := TX0) (N := 11) hx hb hts in_X0 hown hK hP 0 rfl rfl 3 (by decide) (hts _ q39) (fun _ h9 => h9) rfl dX0_sort_25 ?_
      refine lv_iload_n hx hb dX0_sort_28 rfl (lv_at hl 2 rfl) ?_
      refine g_iald hx hb hK hP 4 3 rfl rfl (k := k) (by omega) (by decide) dX0_sort_29 ?_
      refine lv_iload_n hx hb dX0_sort_30 rfl (lv_at hl 1 rfl) ?_
      refine lv_icmp_ne (tgt := 36) hx hb dX0_sort_31 (by decide) (fun c_31 => ?_) (fun c_31 => ?_)
      · refine lv_iinc (v := nI (k + 1)) (lv' := [(2, .int (nI (k + 1))), (0, .ref (q 0)), (1, .int p0)]) hx hb dX0_sort_36 hl (k := 2) rfl (inc1 _) (by decide) rfl (fun ls hl => ?_)
        refine lv_goto (tgt := 16) hx hb dX0_sort_39 (by decide) ?_
        exact ih (n - 1) _ _ _ (by omega) ⟨(k + 1), by omega, fun i hi => by rcases Nat.eq_or_lt_of_le (Nat.le_of_lt_succ hi) with r | r; (subst r; exact c_31); exact hno i r, hP, hS, lv_sub hl [1, 2, 0] rfl⟩
      · have hyK : isK (okB w c) c t = true := lst_yes hkl (by omega) ht (k := k) (show k < (KL (okB w c) c).length by omega) (by rw [← hp]; exact c_31)
        refine lv_iconst (v := 1) hx hb dX0_sort_34 (by decide) ?_
        exact g_reti (w, pr, dr, kl1, fl1, wt1, nI c, ds, nI y, nI z, 1) hx hb hr hlocks hP hS (Or.inr ⟨c_5, ⟨kl1, fl1, wt1, y, z, rfl, hX, by rw [hpt, hyK]; rfl⟩⟩) dX0_sort_35
  · refine lv_iconst (v := (-1)) hx hb dX0_sort_8 (by decide) ?_
    exact g_reti (w, pr, dr, kl, fl, wt, nI c, ds, kc, fc, sv) hx hb hr hlocks hP hS (Or.inl ⟨c_5, rfl, rfl⟩) dX0_sort_9
end
section
/-! rows for the reference -/
set_option maxRecDepth 100000
def okM (lt : Nat → Int32) (c t : Nat) : Bool := decide (¬ fnd (fun v => alh lt (nI t) v c 0) 32 0 < 0)
theorem filt_len (P : Nat → Bool) (k : Nat) : ((List.range (k + 1)).filter P).length = if P k then ((List.range k).filter P).length + 1 else ((List.range k).filter P).length := by
  rw [List.range_succ, List.filter_append, List.length_append]
  cases h : P k
  · rw [List.filter_cons_of_neg (by rw [h]; decide)]; rfl
  · rw [List.filter_cons_of_pos h]; rfl
theorem filt_at {P : Nat → Bool} {k N : Nat} (hk : k < N) (hP : P k = true) : ((List.range k).filter P).length < ((List.range N).filter P).length ∧ ((List.range N).filter P).getD ((List.range k).filter P).length 0 = k := by
  obtain ⟨m, rfl⟩ : ∃ m, N = (k + 1) + m := ⟨N - (k + 1), by omega⟩
  rw [List.range_add, List.range_succ, List.filter_append, List.filter_append, List.filter_cons_of_pos hP]
  constructor
  · rw [List.length_append, List.length_append]
    simp only [List.length_cons]
    omega
  · rw [List.append_assoc, List.getD_eq_getElem?_getD, List.getElem?_append_right (Nat.le_refl _), Nat.sub_self]
    rfl
/-- listed: how many for -1, else the p-th -/
def lsM (L : List Nat) (p : Int32) : Int32 := if p = -1 then nI L.length else lsI L p
theorem lsM_hit {P : Nat → Bool} {k N y : Nat} {p : Int32} (hN : N ≤ 512) (hk : k < N) (hP : P k = true) (hy : y = ((List.range k).filter P).length) (e : nI y = p) : lsM ((List.range N).filter P) p = nI k := by
  obtain ⟨h1, h2⟩ := filt_at hk hP
  rw [← hy] at h1 h2
  have hl : ((List.range N).filter P).length ≤ N := by
    have := List.length_filter_le P (List.range N)
    rw [List.length_range] at this
    exact this
  subst e
  unfold lsM lsI
  rw [if_neg, if_neg (nI_pos (by omega)), if_neg (nI_ge h1 (by omega)), nI_clamp (by omega), h2]
  intro e
  exact absurd (show nI y < 0 by rw [e]; decide) (nI_pos (by omega))
theorem lsM_end {L : List Nat} {p : Int32} (hL : L.length ≤ 512) (h : ∀ m, m < L.length → ¬ nI m = p) (hp : ¬ p = -1) : lsM L p = -1 := by
  unfold lsM lsI
  rw [if_neg hp]
  by_cases h1 : p < 0
  · rw [if_pos h1]
  · rw [if_neg h1]
    obtain ⟨j, hj, rfl⟩ := nI_of h1
    rw [if_pos]
    rcases Nat.lt_or_ge j L.length with q | q
    · exact absurd rfl (h j q)
    · exact nI_le q hj
theorem ones9 {k : Nat} (h : k < 512) : onesF (nI k) 10 = onesF (nI k) 9 := by
  show onesF (nI k) 9 + sb (nI k) 9 = _
  have e : sb (nI k) 9 = 0 := by
    rw [sb_eq _ (by decide), bt_nI _ (by decide), Nat.testBit_lt_two_pow (by omega)]
    rfl
  rw [e, Int32.add_zero]
theorem bit01 (x : Int32) {j : Nat} (hj : j < 32) (h : ¬ (x >>> (nI j &&& 31)) &&& 1 = 1) : (x >>> (nI j &&& 31)) &&& 1 = 0 := by
  have e := sb_eq x hj
  unfold sb at e
  rw [e] at h ⊢
  exact b2i_n1 h
theorem okM_t {lt : Nat → Int32} {c t : Nat} (h : ¬ fnd (fun v => alh lt (nI t) v c 0) 32 0 < 0) : okM lt c t = true := decide_eq_true h
theorem okM_f {lt : Nat → Int32} {c t : Nat} (h : fnd (fun v => alh lt (nI t) v c 0) 32 0 < 0) : okM lt c t = false := decide_eq_false (fun z => z h)
theorem b2i_nz {b : Bool} (h : ¬ b2i b = 0) : b = true := by cases b; exact absurd rfl h; rfl
theorem lsI_neg {L : List Nat} {p : Int32} (h : p < 0) : lsI L p = -1 := if_pos h
theorem filt_le_N (P : Nat → Bool) (N : Nat) : ((List.range N).filter P).length ≤ N := by
  have := List.length_filter_le P (List.range N)
  rw [List.length_range] at this
  exact this
end
section
/-! the methods of ConflictSetsModel that write: rows printed by gen/m_d.py -/
set_option maxRecDepth 100000

set_option maxHeartbeats 4000000 in
theorem mX1_clear (l : Launch) (D : va_G) (q : Nat → Nat) (d : Nat → ClassId) (lt : Nat → Int32) (pm : Nat → Int32) (ab : Nat → Int32) (dm : Int32) (c : Nat) (hq : gJ 4 q) : Met l yX1_clear (ws_ yX1_clear cX1_clear 2 (some .int)) ({ frames := 1, cells := 0, slots := 0, locals := 23 } : Room) (gPc D (mw q d lt pm ab dm (nI c)) (mt d) [.ref (q 0)]) (gQi D (mwS q d) (fun (r : Int32) (u : MS) => r = onesF dm 10 ∧ u = (lt, pm, ab, 0, nI c)) (gA 4 q)) 0 0 (gA 4 q) := by
  refine g_met (by decide) (Nat.le_of_ble_eq_true rfl) ?_
  intro p e s m below meth cd hx hb hr hml hown hts hlocks hname hP hK ls hl
  have hown : s.vm.findClass RX1 = some m.cls := hown
  have hl : lv_has ls 2 [(0, .ref (q 0))] := hl
  have hS : va_S (gA 4 q) s.heap s.heap [] := va_S.rf
  refine lv_aload_n hx hb dX1_clear_0 rfl (lv_at hl 0 rfl) ?_
  refine lv_aload_n hx hb dX1_clear_1 rfl (lv_at hl 0 rfl) ?_
  refine va_get (D := D) (ci := 1) (v := .int dm) (C := RX1) (T := TX1) (N := 5) hx hb hts in_X1 hown hK hP 0 rfl rfl 0 (by decide) (hts _ q212) (fun _ h9 => h9) rfl dX1_clear_2 ?_
  refine g_callR (W.runV (As := [.int dm]) (rest := []) ⟨hx, hb, hml, hown, hts⟩ (mX1_size l D q d lt pm ab dm c dm) (cwV 1 hts (lw_V q233 q235 qs13 q27 q236) rfl rfl rfl (by decide +kernel) ⟨Nat.le_of_ble_eq_true rfl, Nat.le_of_ble_eq_true rfl⟩) (m_preV _ hK hP) rfl rfl hl.1 rfl (lv_room (Nat.le_of_ble_eq_true rfl)) dX1_clear_5 ⟨Nat.le_of_ble_eq_true rfl, Nat.le_of_ble_eq_true rfl⟩) ?_
  refine lv_istore_n (lv' := [(1, .int (onesF dm 10)), (0, .ref (q 0))]) hx hb dX1_clear_8 rfl hl (by decide) rfl (fun ls hl => ?_)
  refine lv_aload_n hx hb dX1_clear_9 rfl (lv_at hl 1 rfl) ?_
  refine lv_iconst (v := 0) hx hb dX1_clear_10 (by decide) ?_
  refine va_put (D := D) (ci := 1) (v := .int 0) (ty := .int) (C := RX1) (T := TX1) (N := 5) hx hb hts in_X1 tyX1 tyX1_ok nmX1 hown hK hP (m_D hq) hS 0 rfl rfl 0 (by decide) (hts _ q212) (fun _ h9 => h9) rfl (by decide +kernel) rfl rfl (Nat.le_of_ble_eq_true rfl) dX1_clear_11 (fun H locs hP hD hS => ?_)
  have hP : va_P D vwCl (mw q d lt pm ab 0 (nI c)) H := hP
  refine lv_iload_n hx hb dX1_clear_14 rfl (lv_at hl 0 rfl) ?_
  exact g_reti (lt, pm, ab, 0, nI c) hx hb hr hlocks hP hS (⟨rfl, rfl⟩) dX1_clear_15

set_option maxHeartbeats 4000000 in
theorem mX1_literal (l : Launch) (D : va_G) (q : Nat → Nat) (d : Nat → ClassId) (lt : Nat → Int32) (pm : Nat → Int32) (ab : Nat → Int32) (b : Nat) (c : Nat) (p0 : Int32) (hq : gJ 4 q) : Met l yX1_literal (ws_ yX1_literal cX1_literal 3 (some .int)) ({ frames := 1, cells := 0, slots := 0, locals := 23 } : Room) (gPc D (mw q d lt pm ab (nI b) (nI c)) (mt d) [.ref (q 0), .int p0]) (gQi D (mwS q d) (fun (r : Int32) (u : MS) => (p0 < 0 ∨ ¬ p0 ≤ 9) ∧ r = -1 ∧ u = (lt, pm, ab, nI b, nI c) ∨ ∃ j, j ≤ 9 ∧ p0 = nI j ∧ (¬ onesF (nI (b ||| 2 ^ j)) 10 ≤ 4 ∧ r = -2 ∧ u = (lt, pm, ab, nI b, nI c) ∨ onesF (nI (b ||| 2 ^ j)) 10 ≤ 4 ∧ r = onesF (nI (b ||| 2 ^ j)) 10 ∧ u = (lt, pm, ab, nI (b ||| 2 ^ j), nI c))) (gA 4 q)) 0 0 (gA 4 q) := by
  refine g_met (by decide) (Nat.le_of_ble_eq_true rfl) ?_
  intro p e s m below meth cd hx hb hr hml hown hts hlocks hname hP hK ls hl
  have hown : s.vm.findClass RX1 = some m.cls := hown
  have hl : lv_has ls 3 [(0, .ref (q 0)), (1, .int p0)] := hl
  have hS : va_S (gA 4 q) s.heap s.heap [] := va_S.rf
  refine lv_iload_n hx hb dX1_literal_0 rfl (lv_at hl 1 rfl) ?_
  refine lv_if_lt (tgt := 10) hx hb dX1_literal_1 (by decide) (fun c_1 => ?_) (fun c_1 => ?_)
  · refine lv_iconst (v := (-1)) hx hb dX1_literal_10 (by decide) ?_
    exact g_reti (lt, pm, ab, nI b, nI c) hx hb hr hlocks hP hS (Or.inl ⟨Or.inl c_1, rfl, rfl⟩) dX1_literal_11
  · refine lv_iload_n hx hb dX1_literal_4 rfl (lv_at hl 1 rfl) ?_
    refine lv_bipush (v := 9) hx hb dX1_literal_5 (by decide) ?_
    refine lv_icmp_le (tgt := 12) hx hb dX1_literal_7 (by decide) (fun c_7 => ?_) (fun c_7 => ?_)
    · obtain ⟨j, hj, hp⟩ := nI_of2 (n := 9) (by decide) c_1 c_7
      refine lv_aload_n hx hb dX1_literal_12 rfl (lv_at hl 0 rfl) ?_
      refine va_get (D := D) (ci := 1) (v := .int (nI b)) (C := RX1) (T := TX1) (N := 5) hx hb hts in_X1 hown hK hP 0 rfl rfl 0 (by decide) (hts _ q212) (fun _ h9 => h9) rfl dX1_literal_13 ?_
      refine lv_iconst (v := 1) hx hb dX1_literal_16 (by decide) ?_
      refine lv_iload_n hx hb dX1_literal_17 rfl (lv_at hl 1 rfl) ?_
      refine g_tw (y := nI j) (hp) ?_
      refine lv_ishl hx hb dX1_literal_18 ?_
      refine g_tw (y := nI (2 ^ j)) (shl1 j (by omega)) ?_
      refine lv_ior hx hb dX1_literal_19 ?_
      refine g_tw (y := nI (b ||| 2 ^ j)) (nx_or _ _) ?_
      refine lv_istore_n (lv' := [(2, .int (nI (b ||| 2 ^ j))), (0, .ref (q 0)), (1, .int p0)]) hx hb dX1_literal_20 rfl hl (by decide) rfl (fun ls hl => ?_)
      refine lv_aload_n hx hb dX1_literal_21 rfl (lv_at hl 1 rfl) ?_
      refine lv_iload_n hx hb dX1_literal_22 rfl (lv_at hl 0 rfl) ?_
      refine g_callR (W.runV (As := [.int (nI (b ||| 2 ^ j))]) (rest := []) ⟨hx, hb, hml, hown, hts⟩ (mX1_size l D q d lt pm ab (nI b) c (nI (b ||| 2 ^ j))) (cwV 1 hts (lw_V q233 q235 qs13 q27 q236) rfl rfl rfl (by decide +kernel) ⟨Nat.le_of_ble_eq_true rfl, Nat.le_of_ble_eq_true rfl⟩) (m_preV _ hK hP) rfl rfl hl.1 rfl (lv_room (Nat.le_of_ble_eq_true rfl)) dX1_literal_23 ⟨Nat.le_of_ble_eq_true rfl, Nat.le_of_ble_eq_true rfl⟩) ?_
      refine lv_iconst (v := 4) hx hb dX1_literal_26 (by decide) ?_
      refine lv_icmp_le (tgt := 33) hx hb dX1_literal_27 (by decide) (fun c_27 => ?_) (fun c_27 => ?_)
      · refine lv_aload_n hx hb dX1_literal_33 rfl (lv_at hl 1 rfl) ?_
        refine lv_iload_n hx hb dX1_literal_34 rfl (lv_at hl 0 rfl) ?_
        refine va_put (D := D) (ci := 1) (v := .int (nI (b ||| 2 ^ j))) (ty := .int) (C := RX1) (T := TX1) (N := 5) hx hb hts in_X1 tyX1 tyX1_ok nmX1 hown hK hP (m_D hq) hS 0 rfl rfl 0 (by decide) (hts _ q212) (fun _ h9 => h9) rfl (by decide +kernel) rfl rfl (Nat.le_of_ble_eq_true rfl) dX1_literal_35 (fun H locs hP hD hS => ?_)
        have hP : va_P D vwCl (mw q d lt pm ab (nI (b ||| 2 ^ j)) (nI c)) H := hP
        refine lv_aload_n hx hb dX1_literal_38 rfl (lv_at hl 1 rfl) ?_
        refine lv_aload_n hx hb dX1_literal_39 rfl (lv_at hl 1 rfl) ?_
        refine va_get (D := D) (ci := 1) (v := .int (nI (b ||| 2 ^ j))) (C := RX1) (T := TX1) (N := 5) hx hb hts in_X1 hown hK hP 0 rfl rfl 0 (by decide) (hts _ q212) (fun _ h9 => h9) rfl dX1_literal_40 ?_
        refine g_callR (W.runV (As := [.int (nI (b ||| 2 ^ j))]) (rest := []) ⟨hx, hb, hml, hown, hts⟩ (mX1_size l D q d lt pm ab (nI (b ||| 2 ^ j)) c (nI (b ||| 2 ^ j))) (cwV 1 hts (lw_V q233 q235 qs13 q27 q236) rfl rfl rfl (by decide +kernel) ⟨Nat.le_of_ble_eq_true rfl, Nat.le_of_ble_eq_true rfl⟩) (m_preV _ hK hP) rfl rfl hl.1 rfl (lv_room (Nat.le_of_ble_eq_true rfl)) dX1_literal_43 ⟨Nat.le_of_ble_eq_true rfl, Nat.le_of_ble_eq_true rfl⟩) ?_
        exact g_reti (lt, pm, ab, nI (b ||| 2 ^ j), nI c) hx hb hr hlocks hP hS (Or.inr ⟨j, hj, hp, Or.inr ⟨c_27, rfl, rfl⟩⟩) dX1_literal_46
      · refine lv_bipush (v := (-2)) hx hb dX1_literal_30 (by decide) ?_
        exact g_reti (lt, pm, ab, nI b, nI c) hx hb hr hlocks hP hS (Or.inr ⟨j, hj, hp, Or.inl ⟨c_27, rfl, rfl⟩⟩) dX1_literal_32
    · refine lv_iconst (v := (-1)) hx hb dX1_literal_10 (by decide) ?_
      exact g_reti (lt, pm, ab, nI b, nI c) hx hb hr hlocks hP hS (Or.inl ⟨Or.inr c_7, rfl, rfl⟩) dX1_literal_11

set_option maxHeartbeats 4000000 in
theorem mX1_add (l : Launch) (D : va_G) (q : Nat → Nat) (d : Nat → ClassId) (lt : Nat → Int32) (pm : Nat → Int32) (ab : Nat → Int32) (b : Nat) (c : Nat) (hq : gJ 4 q) (hb1 : b < 1024) (hc9 : c ≤ 9) : Met l yX1_add (ws_ yX1_add cX1_add 2 (some .int)) ({ frames := 0, cells := 0, slots := 0, locals := 0 } : Room) (gPc D (mw q d lt pm ab (nI b) (nI c)) (mt d) [.ref (q 0)]) (gQi D (mwS q d) (fun (r : Int32) (u : MS) => b = 0 ∧ r = -1 ∧ u = (lt, pm, ab, nI b, nI c) ∨ 0 < b ∧ (c = 9 ∧ r = -2 ∧ u = (lt, pm, ab, nI b, nI c) ∨ c < 9 ∧ r = nI c ∧ u = (upd lt c (nI b), upd pm c 1, ab, 0, nI (c + 1)))) (gA 4 q)) 0 0 (gA 4 q) := by
  refine g_met (by decide) (Nat.le_of_ble_eq_true rfl) ?_
  intro p e s m below meth cd hx hb hr hml hown hts hlocks hname hP hK ls hl
  have hown : s.vm.findClass RX1 = some m.cls := hown
  have hl : lv_has ls 2 [(0, .ref (q 0))] := hl
  have hS : va_S (gA 4 q) s.heap s.heap [] := va_S.rf
  refine lv_aload_n hx hb dX1_add_0 rfl (lv_at hl 0 rfl) ?_
  refine va_get (D := D) (ci := 1) (v := .int (nI b)) (C := RX1) (T := TX1) (N := 5) hx hb hts in_X1 hown hK hP 0 rfl rfl 0 (by decide) (hts _ q212) (fun _ h9 => h9) rfl dX1_add_1 ?_
  refine lv_if_ne (tgt := 9) hx hb dX1_add_4 (by decide) (fun c_4 => ?_) (fun c_4 => ?_)
  · have hb0 : 0 < b := by rcases Nat.eq_zero_or_pos b with z | z; exact absurd (by rw [z]; rfl) c_4; exact z
    refine lv_aload_n hx hb dX1_add_9 rfl (lv_at hl 0 rfl) ?_
    refine va_get (D := D) (ci := 1) (v := .int (nI c)) (C := RX1) (T := TX1) (N := 5) hx hb hts in_X1 hown hK hP 0 rfl rfl 1 (by decide) (hts _ q213) (fun _ h9 => h9) rfl dX1_add_10 ?_
    refine lv_istore_n (lv' := [(1, .int (nI c)), (0, .ref (q 0))]) hx hb dX1_add_13 rfl hl (by decide) rfl (fun ls hl => ?_)
    refine lv_iload_n hx hb dX1_add_14 rfl (lv_at hl 0 rfl) ?_
    refine lv_bipush (v := 8) hx hb dX1_add_15 (by decide) ?_
    refine lv_icmp_le (tgt := 23) hx hb dX1_add_17 (by decide) (fun c_17 => ?_) (fun c_17 => ?_)
    · have hclt : c < 9 := by have := (nI_leI (b := 8) (by omega) (by decide)).mp c_17; omega
      refine lv_aload_n hx hb dX1_add_23 rfl (lv_at hl 1 rfl) ?_
      refine va_get (D := D) (ci := 1) (v := .ref (q 1)) (C := RX1) (T := TX1) (N := 5) hx hb hts in_X1 hown hK hP 0 rfl rfl 2 (by decide) (hts _ q214) (fun _ h9 => h9) rfl dX1_add_24 ?_
      refine lv_iload_n hx hb dX1_add_27 rfl (lv_at hl 0 rfl) ?_
      refine lv_aload_n hx hb dX1_add_28 rfl (lv_at hl 1 rfl) ?_
      refine va_get (D := D) (ci := 1) (v := .int (nI b)) (C := RX1) (T := TX1) (N := 5) hx hb hts in_X1 hown hK hP 0 rfl rfl 0 (by decide) (hts _ q212) (fun _ h9 => h9) rfl dX1_add_29 ?_
      refine g_iast hx hb hK hP (m_D hq) hS 1 0 rfl rfl (k := c) (hclt) (by decide) dX1_add_32 (fun H locs hP hS => ?_)
      have hP : va_P D vwCl (mw q d (upd lt c (nI b)) pm ab (nI b) (nI c)) H := hP
      refine lv_aload_n hx hb dX1_add_33 rfl (lv_at hl 1 rfl) ?_
      refine va_get (D := D) (ci := 1) (v := .ref (q 2)) (C := RX1) (T := TX1) (N := 5) hx hb hts in_X1 hown hK hP 0 rfl rfl 3 (by decide) (hts _ q215) (fun _ h9 => h9) rfl dX1_add_34 ?_
      refine lv_iload_n hx hb dX1_add_37 rfl (lv_at hl 0 rfl) ?_
      refine lv_iconst (v := 1) hx hb dX1_add_38 (by decide) ?_
      refine g_iast hx hb hK hP (m_D hq) hS 2 1 rfl rfl (k := c) (hclt) (by decide) dX1_add_39 (fun H locs hP hS => ?_)
      have hP : va_P D vwCl (mw q d (upd lt c (nI b)) (upd pm c 1) ab (nI b) (nI c)) H := hP
      refine lv_aload_n hx hb dX1_add_40 rfl (lv_at hl 1 rfl) ?_
      refine lv_iload_n hx hb dX1_add_41 rfl (lv_at hl 0 rfl) ?_
      refine lv_iconst (v := 1) hx hb dX1_add_42 (by decide) ?_
      refine lv_iadd hx hb dX1_add_43 ?_
      refine g_tw (y := nI (c + 1)) (nI_1 c) ?_
      refine va_put (D := D) (ci := 1) (v := .int (nI (c + 1))) (ty := .int) (C := RX1) (T := TX1) (N := 5) hx hb hts in_X1 tyX1 tyX1_ok nmX1 hown hK hP (m_D hq) hS 0 rfl rfl 1 (by decide) (hts _ q213) (fun _ h9 => h9) rfl (by decide +kernel) rfl rfl (Nat.le_of_ble_eq_true rfl) dX1_add_44 (fun H locs hP hD hS => ?_)
      have hP : va_P D vwCl (mw q d (upd lt c (nI b)) (upd pm c 1) ab (nI b) (nI (c + 1))) H := hP
      refine lv_aload_n hx hb dX1_add_47 rfl (lv_at hl 1 rfl) ?_
      refine lv_iconst (v := 0) hx hb dX1_add_48 (by decide) ?_
      refine va_put (D := D) (ci := 1) (v := .int 0) (ty := .int) (C := RX1) (T := TX1) (N := 5) hx hb hts in_X1 tyX1 tyX1_ok nmX1 hown hK hP (m_D hq) hS 0 rfl rfl 0 (by decide) (hts _ q212) (fun _ h9 => h9) rfl (by decide +kernel) rfl rfl (Nat.le_of_ble_eq_true rfl) dX1_add_49 (fun H locs hP hD hS => ?_)
      have hP : va_P D vwCl (mw q d (upd lt c (nI b)) (upd pm c 1) ab 0 (nI (c + 1))) H := hP
      refine lv_iload_n hx hb dX1_add_52 rfl (lv_at hl 0 rfl) ?_
      exact g_reti (upd lt c (nI b), upd pm c 1, ab, 0, nI (c + 1)) hx hb hr hlocks hP hS (Or.inr ⟨hb0, Or.inr ⟨hclt, rfl, rfl⟩⟩) dX1_add_53
    · have hclt : c = 9 := by rcases Nat.lt_or_ge c 9 with z | z; exact absurd ((nI_leI (b := 8) (by omega) (by decide)).mpr (by omega)) c_17; omega
      refine lv_bipush (v := (-2)) hx hb dX1_add_20 (by decide) ?_
      exact g_reti (lt, pm, ab, nI b, nI c) hx hb hr hlocks hP hS (Or.inr ⟨hb0, Or.inl ⟨hclt, rfl, rfl⟩⟩) dX1_add_22
  · have hb0 : b = 0 := (nI_eq (b := 0) (by omega) (by decide)).mp c_4
    refine lv_iconst (v := (-1)) hx hb dX1_add_7 (by decide) ?_
    exact g_reti (lt, pm, ab, nI b, nI c) hx hb hr hlocks hP hS (Or.inl ⟨hb0, rfl, rfl⟩) dX1_add_8

set_option maxHeartbeats 4000000 in
theorem mX1_remove (l : Launch) (D : va_G) (q : Nat → Nat) (d : Nat → ClassId) (lt : Nat → Int32) (pm : Nat → Int32) (ab : Nat → Int32) (dm : Int32) (c : Nat) (p0 : Int32) (hq : gJ 4 q) (hc9 : c ≤ 9) : Met l yX1_remove (ws_ yX1_remove cX1_remove 3 (some .int)) ({ frames := 1, cells := 0, slots := 0, locals := 21 } : Room) (gPc D (mw q d lt pm ab dm (nI c)) (mt d) [.ref (q 0), .int p0]) (gQi D (mwS q d) (fun (r : Int32) (u : MS) => (isG p0 (nI c) = 0 ∧ r = -1 ∧ u = (lt, pm, ab, dm, nI c)) ∨ ∃ j, j < c ∧ p0 = nI j ∧ r = nI (c - 1) ∧ u = (shf lt j (c - 1), shf pm j (c - 1), ab, dm, nI (c - 1))) (gA 4 q)) 0 0 (gA 4 q) := by
  refine g_met (by decide) (Nat.le_of_ble_eq_true rfl) ?_
  intro p e s m below meth cd hx hb hr hml hown hts hlocks hname hP hK ls hl
  have hown : s.vm.findClass RX1 = some m.cls := hown
  have hl : lv_has ls 3 [(0, .ref (q 0)), (1, .int p0)] := hl
  have hS : va_S (gA 4 q) s.heap s.heap [] := va_S.rf
  refine lv_aload_n hx hb dX1_remove_0 rfl (lv_at hl 0 rfl) ?_
  refine lv_iload_n hx hb dX1_remove_1 rfl (lv_at hl 1 rfl) ?_
  refine g_callR (W.runV (As := [.int p0]) (rest := []) ⟨hx, hb, hml, hown, hts⟩ (mX1_bad l D q d lt pm ab dm c p0 hc9) (cwV 1 hts (lw_V q249 q251 qs14 q27 q252) rfl rfl rfl (by decide +kernel) ⟨Nat.le_of_ble_eq_true rfl, Nat.le_of_ble_eq_true rfl⟩) (m_preV _ hK hP) rfl rfl hl.1 rfl (lv_room (Nat.le_of_ble_eq_true rfl)) dX1_remove_2 ⟨Nat.le_of_ble_eq_true rfl, Nat.le_of_ble_eq_true rfl⟩) ?_
  refine lv_if_eq (tgt := 10) hx hb dX1_remove_5 (by decide) (fun c_5 => ?_) (fun c_5 => ?_)
  · obtain ⟨j, hj, hp⟩ := isG_t hc9 ((isB_isG _ _).mp c_5)
    refine lv_iload_n hx hb dX1_remove_10 rfl (lv_at hl 1 rfl) ?_
    refine g_tw (y := nI j) (hp) ?_
    have hP : va_P D vwCl (mw q d (shf lt j j) pm ab dm (nI c)) s.heap := by rw [shf_0]; exact hP
    have hP : va_P D vwCl (mw q d (shf lt j j) (shf pm j j) ab dm (nI c)) s.heap := by rw [shf_0 pm]; exact hP
    refine lv_istore_n (lv' := [(2, .int (nI j)), (0, .ref (q 0)), (1, .int p0)]) hx hb dX1_remove_11 rfl hl (by decide) rfl (fun ls hl => ?_)
    refine g_loopH (pc := 12) (P := fun n H locs ls => ∃ (i : Nat), (j ≤ i) ∧ (i + n = c - 1) ∧ va_P D vwCl (mw q d (shf lt j i) (shf pm j i) ab dm (nI c)) H ∧ va_S (gA 4 q) s.heap H locs ∧ lv_has ls 3 [(0, .ref (q 0)), (1, .int p0), (2, .int (nI i))]) ?_ (c - 1 - j) _ _ _ ⟨j, Nat.le_refl j, by omega, hP, hS, lv_sub hl [1, 2, 0] rfl⟩
    intro n H locs ls hh ih
    obtain ⟨i, hji, hk, hP, hS, hl⟩ := hh
    refine lv_iload_n hx hb dX1_remove_12 rfl (lv_at hl 2 rfl) ?_
    refine lv_aload_n hx hb dX1_remove_13 rfl (lv_at hl 0 rfl) ?_
    refine va_get (D := D) (ci := 1) (v := .int (nI c)) (C := RX1) (T := TX1) (N := 5) hx hb hts in_X1 hown hK hP 0 rfl rfl 1 (by decide) (hts _ q213) (fun _ h9 => h9) rfl dX1_remove_14 ?_
    refine lv_iconst (v := 1) hx hb dX1_remove_17 (by decide) ?_
    refine lv_isub hx hb dX1_remove_18 ?_
    refine g_tw (y := nI (c - 1)) (nI_m1 (by omega)) ?_
    refine lv_icmp_ge (tgt := 62) hx hb dX1_remove_19 (by decide) (fun c_19 => ?_) (fun c_19 => ?_)
    · have hkc : i = c - 1 := c_eq (by omega) (by omega) c_19
      refine lv_aload_n hx hb dX1_remove_62 rfl (lv_at hl 0 rfl) ?_
      refine lv_dup hx hb dX1_remove_63 rfl ?_
      refine va_get (D := D) (ci := 1) (v := .int (nI c)) (C := RX1) (T := TX1) (N := 5) hx hb hts in_X1 hown hK hP 0 rfl rfl 1 (by decide) (hts _ q213) (fun _ h9 => h9) rfl dX1_remove_64 ?_
      refine lv_iconst (v := 1) hx hb dX1_remove_67 (by decide) ?_
      refine lv_isub hx hb dX1_remove_68 ?_
      refine g_tw (y := nI (c - 1)) (nI_m1 (by omega)) ?_
      refine va_put (D := D) (ci := 1) (v := .int (nI (c - 1))) (ty := .int) (C := RX1) (T := TX1) (N := 5) hx hb hts in_X1 tyX1 tyX1_ok nmX1 hown hK hP (m_D hq) hS 0 rfl rfl 1 (by decide) (hts _ q213) (fun _ h9 => h9) rfl (by decide +kernel) rfl rfl (Nat.le_of_ble_eq_true rfl) dX1_remove_69 (fun H locs hP hD hS => ?_)
      have hP : va_P D vwCl (mw q d (shf lt j i) (shf pm j i) ab dm (nI (c - 1))) H := hP
      refine lv_aload_n hx hb dX1_remove_72 rfl (lv_at hl 0 rfl) ?_
      refine va_get (D := D) (ci := 1) (v := .int (nI (c - 1))) (C := RX1) (T := TX1) (N := 5) hx hb hts in_X1 hown hK hP 0 rfl rfl 1 (by decide) (hts _ q213) (fun _ h9 => h9) rfl dX1_remove_73 ?_
      exact g_reti (shf lt j i, shf pm j i, ab, dm, nI (c - 1)) hx hb hr hlocks hP hS (Or.inr ⟨j, hj, hp, rfl, by rw [← hkc]⟩) dX1_remove_76
    · have hlt : i < c - 1 := c_lt (by omega) (by omega) c_19
      refine lv_iload_n hx hb dX1_remove_22 rfl (lv_at hl 2 rfl) ?_
      refine lv_bipush (v := 8) hx hb dX1_remove_23 (by decide) ?_
      refine lv_icmp_ge (tgt := 62) hx hb dX1_remove_25 (by decide) (fun c_25 => ?_) (fun c_25 => ?_)
      · exact absurd c_25 (nI_ge (b := 8) (by omega) (by decide))
      · refine lv_aload_n hx hb dX1_remove_28 rfl (lv_at hl 0 rfl) ?_
        refine va_get (D := D) (ci := 1) (v := .ref (q 1)) (C := RX1) (T := TX1) (N := 5) hx hb hts in_X1 hown hK hP 0 rfl rfl 2 (by decide) (hts _ q214) (fun _ h9 => h9) rfl dX1_remove_29 ?_
        refine lv_iload_n hx hb dX1_remove_32 rfl (lv_at hl 2 rfl) ?_
        refine lv_aload_n hx hb dX1_remove_33 rfl (lv_at hl 0 rfl) ?_
        refine va_get (D := D) (ci := 1) (v := .ref (q 1)) (C := RX1) (T := TX1) (N := 5) hx hb hts in_X1 hown hK hP 0 rfl rfl 2 (by decide) (hts _ q214) (fun _ h9 => h9) rfl dX1_remove_34 ?_
        refine lv_iload_n hx hb dX1_remove_37 rfl (lv_at hl 2 rfl) ?_
        refine lv_iconst (v := 1) hx hb dX1_remove_38 (by decide) ?_
        refine lv_iadd hx hb dX1_remove_39 ?_
        refine g_tw (y := nI (i + 1)) (nI_1 i) ?_
        refine g_iald hx hb hK hP 1 0 rfl rfl (k := (i + 1)) (by omega) (by decide) dX1_remove_40 ?_
        refine g_iast hx hb hK hP (m_D hq) hS 1 0 rfl rfl (k := i) (by omega) (by decide) dX1_remove_41 (fun H locs hP hS => ?_)
        have hP : va_P D vwCl (mw q d (upd (shf lt j i) i ((shf lt j i) (i + 1))) (shf pm j i) ab dm (nI c)) H := hP
        have hP : va_P D vwCl (mw q d (shf lt j (i + 1)) (shf pm j i) ab dm (nI c)) H := by rw [← shf_s lt hji]; exact hP
        refine lv_aload_n hx hb dX1_remove_42 rfl (lv_at hl 0 rfl) ?_
        refine va_get (D := D) (ci := 1) (v := .ref (q 2)) (C := RX1) (T := TX1) (N := 5) hx hb hts in_X1 hown hK hP 0 rfl rfl 3 (by decide) (hts _ q215) (fun _ h9 => h9) rfl dX1_remove_43 ?_
        refine lv_iload_n hx hb dX1_remove_46 rfl (lv_at hl 2 rfl) ?_
        refine lv_aload_n hx hb dX1_remove_47 rfl (lv_at hl 0 rfl) ?_
        refine va_get (D := D) (ci := 1) (v := .ref (q 2)) (C := RX1) (T := TX1) (N := 5) hx hb hts in_X1 hown hK hP 0 rfl rfl 3 (by decide) (hts _ q215) (fun _ h9 => h9) rfl dX1_remove_48 ?_
        refine lv_iload_n hx hb dX1_remove_51 rfl (lv_at hl 2 rfl) ?_
        refine lv_iconst (v := 1) hx hb dX1_remove_52 (by decide) ?_
        refine lv_iadd hx hb dX1_remove_53 ?_
        refine g_tw (y := nI (i + 1)) (nI_1 i) ?_
        refine g_iald hx hb hK hP 2 1 rfl rfl (k := (i + 1)) (by omega) (by decide) dX1_remove_54 ?_
        refine g_iast hx hb hK hP (m_D hq) hS 2 1 rfl rfl (k := i) (by omega) (by decide) dX1_remove_55 (fun H locs hP hS => ?_)
        have hP : va_P D vwCl (mw q d (shf lt j (i + 1)) (upd (shf pm j i) i ((shf pm j i) (i + 1))) ab dm (nI c)) H := hP
        have hP : va_P D vwCl (mw q d (shf lt j (i + 1)) (shf pm j (i + 1)) ab dm (nI c)) H := by rw [← shf_s pm hji]; exact hP
        refine lv_iinc (v := nI (i + 1)) (lv' := [(2, .int (nI (i + 1))), (0, .ref (q 0)), (1, .int p0)]) hx hb dX1_remove_56 hl (k := 2) rfl (inc1 _) (by decide) rfl (fun ls hl => ?_)
        refine lv_goto (tgt := 12) hx hb dX1_remove_59 (by decide) ?_
        exact ih (n - 1) _ _ _ (by omega) ⟨(i + 1), by omega, by omega, hP, hS, lv_sub hl [1, 2, 0] rfl⟩
  · have c_5 : isG p0 (nI c) = 0 := Decidable.not_not.mp (fun z => c_5 ((isB_isG _ _).mpr z))
    refine lv_iconst (v := (-1)) hx hb dX1_remove_8 (by decide) ?_
    exact g_reti (lt, pm, ab, dm, nI c) hx hb hr hlocks hP hS (Or.inl ⟨c_5, rfl, rfl⟩) dX1_remove_9

set_option maxHeartbeats 4000000 in
theorem mX1_price (l : Launch) (D : va_G) (q : Nat → Nat) (d : Nat → ClassId) (lt : Nat → Int32) (pm : Nat → Int32) (ab : Nat → Int32) (dm : Int32) (c : Nat) (p0 : Int32) (p1 : Int32) (hq : gJ 4 q) (hc9 : c ≤ 9) : Met l yX1_price (ws_ yX1_price cX1_price 4 (some .int)) ({ frames := 1, cells := 0, slots := 0, locals := 21 } : Room) (gPc D (mw q d lt pm ab dm (nI c)) (mt d) [.ref (q 0), .int p0, .int p1]) (gQi D (mwS q d) (fun (r : Int32) (u : MS) => (isG p0 (nI c) = 0 ∧ r = -1 ∧ u = (lt, pm, ab, dm, nI c)) ∨ ∃ j, j < c ∧ p0 = nI j ∧ ((p1 < 1 ∨ ¬ p1 ≤ 20) ∧ r = -2 ∧ u = (lt, pm, ab, dm, nI c) ∨ (¬ p1 < 1 ∧ p1 ≤ 20) ∧ r = pm j ∧ u = (lt, upd pm j p1, ab, dm, nI c))) (gA 4 q)) 0 0 (gA 4 q) := by
  refine g_met (by decide) (Nat.le_of_ble_eq_true rfl) ?_
  intro p e s m below meth cd hx hb hr hml hown hts hlocks hname hP hK ls hl
  have hown : s.vm.findClass RX1 = some m.cls := hown
  have hl : lv_has ls 4 [(0, .ref (q 0)), (1, .int p0), (2, .int p1)] := hl
  have hS : va_S (gA 4 q) s.heap s.heap [] := va_S.rf
  refine lv_aload_n hx hb dX1_price_0 rfl (lv_at hl 0 rfl) ?_
  refine lv_iload_n hx hb dX1_price_1 rfl (lv_at hl 1 rfl) ?_
  refine g_callR (W.runV (As := [.int p0]) (rest := []) ⟨hx, hb, hml, hown, hts⟩ (mX1_bad l D q d lt pm ab dm c p0 hc9) (cwV 1 hts (lw_V q249 q251 qs14 q27 q252) rfl rfl rfl (by decide +kernel) ⟨Nat.le_of_ble_eq_true rfl, Nat.le_of_ble_eq_true rfl⟩) (m_preV _ hK hP) rfl rfl hl.1 rfl (lv_room (Nat.le_of_ble_eq_true rfl)) dX1_price_2 ⟨Nat.le_of_ble_eq_true rfl, Nat.le_of_ble_eq_true rfl⟩) ?_
  refine lv_if_eq (tgt := 10) hx hb dX1_price_5 (by decide) (fun c_5 => ?_) (fun c_5 => ?_)
  · obtain ⟨j, hj, hp⟩ := isG_t hc9 ((isB_isG _ _).mp c_5)
    refine lv_iload_n hx hb dX1_price_10 rfl (lv_at hl 2 rfl) ?_
    refine lv_iconst (v := 1) hx hb dX1_price_11 (by decide) ?_
    refine lv_icmp_lt (tgt := 21) hx hb dX1_price_12 (by decide) (fun c_12 => ?_) (fun c_12 => ?_)
    · refine lv_bipush (v := (-2)) hx hb dX1_price_21 (by decide) ?_
      exact g_reti (lt, pm, ab, dm, nI c) hx hb hr hlocks hP hS (Or.inr ⟨j, hj, hp, Or.inl ⟨Or.inl c_12, rfl, rfl⟩⟩) dX1_price_23
    · refine lv_iload_n hx hb dX1_price_15 rfl (lv_at hl 2 rfl) ?_
      refine lv_bipush (v := 20) hx hb dX1_price_16 (by decide) ?_
      refine lv_icmp_le (tgt := 24) hx hb dX1_price_18 (by decide) (fun c_18 => ?_) (fun c_18 => ?_)
      · refine lv_aload_n hx hb dX1_price_24 rfl (lv_at hl 0 rfl) ?_
        refine va_get (D := D) (ci := 1) (v := .ref (q 2)) (C := RX1) (T := TX1) (N := 5) hx hb hts in_X1 hown hK hP 0 rfl rfl 3 (by decide) (hts _ q215) (fun _ h9 => h9) rfl dX1_price_25 ?_
        refine lv_iload_n hx hb dX1_price_28 rfl (lv_at hl 1 rfl) ?_
        refine g_tw (y := nI j) (hp) ?_
        refine g_iald hx hb hK hP 2 1 rfl rfl (k := j) (by omega) (by decide) dX1_price_29 ?_
        refine lv_istore_n (lv' := [(3, .int (pm j)), (0, .ref (q 0)), (1, .int p0), (2, .int p1)]) hx hb dX1_price_30 rfl hl (by decide) rfl (fun ls hl => ?_)
        refine lv_aload_n hx hb dX1_price_31 rfl (lv_at hl 1 rfl) ?_
        refine va_get (D := D) (ci := 1) (v := .ref (q 2)) (C := RX1) (T := TX1) (N := 5) hx hb hts in_X1 hown hK hP 0 rfl rfl 3 (by decide) (hts _ q215) (fun _ h9 => h9) rfl dX1_price_32 ?_
        refine lv_iload_n hx hb dX1_price_35 rfl (lv_at hl 2 rfl) ?_
        refine g_tw (y := nI j) (hp) ?_
        refine lv_iload_n hx hb dX1_price_36 rfl (lv_at hl 3 rfl) ?_
        refine g_iast hx hb hK hP (m_D hq) hS 2 1 rfl rfl (k := j) (by omega) (by decide) dX1_price_37 (fun H locs hP hS => ?_)
        have hP : va_P D vwCl (mw q d lt (upd pm j p1) ab dm (nI c)) H := hP
        refine lv_iload_n hx hb dX1_price_38 rfl (lv_at hl 0 rfl) ?_
        exact g_reti (lt, upd pm j p1, ab, dm, nI c) hx hb hr hlocks hP hS (Or.inr ⟨j, hj, hp, Or.inr ⟨⟨c_12, c_18⟩, rfl, rfl⟩⟩) dX1_price_39
      · refine lv_bipush (v := (-2)) hx hb dX1_price_21 (by decide) ?_
        exact g_reti (lt, pm, ab, dm, nI c) hx hb hr hlocks hP hS (Or.inr ⟨j, hj, hp, Or.inl ⟨Or.inr c_18, rfl, rfl⟩⟩) dX1_price_23
  · have c_5 : isG p0 (nI c) = 0 := Decidable.not_not.mp (fun z => c_5 ((isB_isG _ _).mpr z))
    refine lv_iconst (v := (-1)) hx hb dX1_price_8 (by decide) ?_
    exact g_reti (lt, pm, ab, dm, nI c) hx hb hr hlocks hP hS (Or.inl ⟨c_5, rfl, rfl⟩) dX1_price_9

set_option maxHeartbeats 4000000 in
theorem mX1_work (l : Launch) (D : va_G) (q : Nat → Nat) (d : Nat → ClassId) (lt : Nat → Int32) (pm : Nat → Int32) (ab : Nat → Int32) (dm : Int32) (c : Nat) (hq : gJ 4 q) (hc9 : c ≤ 9) : Met l yX1_work (ws_ yX1_work cX1_work 2 none) ({ frames := 3, cells := 0, slots := 0, locals := 69 } : Room) (gPc D (mw q d lt pm ab dm (nI c)) (mt d) [.ref (q 0)]) (gQv D (mwS q d) (fun (u : MS) => ∃ ab1 : Nat → Int32, u = (lt, pm, ab1, dm, nI c) ∧ ∀ t, t < 2 ^ c → ab1 t = b2i (okM lt c t)) (gA 4 q)) 0 0 (gA 4 q) := by
  refine g_met (by decide) (Nat.le_of_ble_eq_true rfl) ?_
  intro p e s m below meth cd hx hb hr hml hown hts hlocks hname hP hK ls hl
  have hown : s.vm.findClass RX1 = some m.cls := hown
  have hl : lv_has ls 2 [(0, .ref (q 0))] := hl
  have hS : va_S (gA 4 q) s.heap s.heap [] := va_S.rf
  have h512 := pow9 hc9
  refine lv_iconst (v := 0) hx hb dX1_work_0 (by decide) ?_
  refine lv_istore_n (lv' := [(1, .int 0), (0, .ref (q 0))]) hx hb dX1_work_1 rfl hl (by decide) rfl (fun ls hl => ?_)
  refine g_loopH (pc := 2) (P := fun n H locs ls => ∃ (k : Nat) (f : Nat → Int32), (k + n = 2 ^ c) ∧ (∀ t, t < k → f t = b2i (okM lt c t)) ∧ va_P D vwCl (mw q d lt pm f dm (nI c)) H ∧ va_S (gA 4 q) s.heap H locs ∧ lv_has ls 2 [(0, .ref (q 0)), (1, .int (nI k))]) ?_ (2 ^ c) _ _ _ ⟨0, ab, Nat.zero_add _, fun t h => absurd h (Nat.not_lt_zero t), hP, hS, lv_sub hl [1, 0] rfl⟩
  intro n H locs ls hh ih
  obtain ⟨k, f, hk, hf, hP, hS, hl⟩ := hh
  refine lv_iload_n hx hb dX1_work_2 rfl (lv_at hl 1 rfl) ?_
  refine lv_iconst (v := 1) hx hb dX1_work_3 (by decide) ?_
  refine lv_aload_n hx hb dX1_work_4 rfl (lv_at hl 0 rfl) ?_
  refine va_get (D := D) (ci := 1) (v := .int (nI c)) (C := RX1) (T := TX1) (N := 5) hx hb hts in_X1 hown hK hP 0 rfl rfl 1 (by decide) (hts _ q213) (fun _ h9 => h9) rfl dX1_work_5 ?_
  refine lv_ishl hx hb dX1_work_8 ?_
  refine g_tw (y := nI (2 ^ c)) (shl1 c (by omega)) ?_
  refine lv_icmp_ge (tgt := 44) hx hb dX1_work_9 (by decide) (fun c_9 => ?_) (fun c_9 => ?_)
  · have hkc : k = 2 ^ c := c_eq (by omega) (by omega) c_9
    exact g_retv (lt, pm, f, dm, nI c) hx hb hr hlocks hP hS (⟨f, rfl, fun t ht => hf t (by omega)⟩) dX1_work_44
  · have hlt : k < 2 ^ c := c_lt (by omega) (by omega) c_9
    refine lv_iload_n hx hb dX1_work_12 rfl (lv_at hl 1 rfl) ?_
    refine lv_sipush (v := 512) hx hb dX1_work_13 (by decide) ?_
    refine lv_icmp_ge (tgt := 44) hx hb dX1_work_16 (by decide) (fun c_16 => ?_) (fun c_16 => ?_)
    · exact absurd c_16 (nI_ge (b := 512) (by omega) (by decide))
    · refine lv_aload_n hx hb dX1_work_19 rfl (lv_at hl 0 rfl) ?_
      refine va_get (D := D) (ci := 1) (v := .ref (q 3)) (C := RX1) (T := TX1) (N := 5) hx hb hts in_X1 hown hK hP 0 rfl rfl 4 (by decide) (hts _ q216) (fun _ h9 => h9) rfl dX1_work_20 ?_
      refine lv_iload_n hx hb dX1_work_23 rfl (lv_at hl 1 rfl) ?_
      refine lv_aload_n hx hb dX1_work_24 rfl (lv_at hl 0 rfl) ?_
      refine lv_iload_n hx hb dX1_work_25 rfl (lv_at hl 1 rfl) ?_
      refine g_callR (W.runV (As := [.int (nI k)]) (rest := [.int (nI k), .ref (q 3)]) ⟨hx, hb, hml, hown, hts⟩ (mX1_find l D q d lt pm f dm c (nI k) hc9) (cwV 1 hts (lw_V q269 q271 qs16 q27 q272) rfl rfl rfl (by decide +kernel) ⟨Nat.le_of_ble_eq_true rfl, Nat.le_of_ble_eq_true rfl⟩) (m_preV _ hK hP) rfl rfl hl.1 rfl (lv_room (Nat.le_of_ble_eq_true rfl)) dX1_work_26 ⟨Nat.le_of_ble_eq_true rfl, Nat.le_of_ble_eq_true rfl⟩) ?_
      refine lv_if_lt (tgt := 36) hx hb dX1_work_29 (by decide) (fun c_29 => ?_) (fun c_29 => ?_)
      · refine lv_iconst (v := 0) hx hb dX1_work_36 (by decide) ?_
        refine g_zast hx hb hK hP (m_D hq) hS 3 2 rfl rfl (k := k) (rfl) (by omega) (by decide) dX1_work_37 (fun H locs hP hS => ?_)
        have hP : va_P D vwCl (mw q d lt pm (upd f k 0) dm (nI c)) H := hP
        refine lv_iinc (v := nI (k + 1)) (lv' := [(1, .int (nI (k + 1))), (0, .ref (q 0))]) hx hb dX1_work_38 hl (k := 1) rfl (inc1 _) (by decide) rfl (fun ls hl => ?_)
        refine lv_goto (tgt := 2) hx hb dX1_work_41 (by decide) ?_
        exact ih (n - 1) _ _ _ (by omega) ⟨(k + 1), upd f k 0, by omega, fun t ht => by unfold upd; by_cases e : t = k; (rw [if_pos e, e, okM_f c_29]; rfl); (rw [if_neg e]; exact hf t (by omega)), hP, hS, lv_sub hl [1, 0] rfl⟩
      · refine lv_iconst (v := 1) hx hb dX1_work_32 (by decide) ?_
        refine lv_goto (tgt := 37) hx hb dX1_work_33 (by decide) ?_
        refine g_zast hx hb hK hP (m_D hq) hS 3 2 rfl rfl (k := k) (rfl) (by omega) (by decide) dX1_work_37 (fun H locs hP hS => ?_)
        have hP : va_P D vwCl (mw q d lt pm (upd f k 1) dm (nI c)) H := hP
        refine lv_iinc (v := nI (k + 1)) (lv' := [(1, .int (nI (k + 1))), (0, .ref (q 0))]) hx hb dX1_work_38 hl (k := 1) rfl (inc1 _) (by decide) rfl (fun ls hl => ?_)
        refine lv_goto (tgt := 2) hx hb dX1_work_41 (by decide) ?_
        exact ih (n - 1) _ _ _ (by omega) ⟨(k + 1), upd f k 1, by omega, fun t ht => by unfold upd; by_cases e : t = k; (rw [if_pos e, e, okM_t c_29]; rfl); (rw [if_neg e]; exact hf t (by omega)), hP, hS, lv_sub hl [1, 0] rfl⟩

set_option maxHeartbeats 4000000 in
theorem mX1_listed (l : Launch) (D : va_G) (q : Nat → Nat) (d : Nat → ClassId) (lt : Nat → Int32) (pm : Nat → Int32) (ab : Nat → Int32) (dm : Int32) (c : Nat) (p0 : Int32) (p1 : Int32) (hq : gJ 4 q) (hc9 : c ≤ 9) (F : Nat → Bool) (hF : (¬ p0 = 0 ∧ F = isK (okM lt c) c) ∨ (p0 = 0 ∧ F = isC (okM lt c) c)) : Met l yX1_listed (ws_ yX1_listed cX1_listed 5 (some .int)) ({ frames := 4, cells := 0, slots := 0, locals := 90 } : Room) (gPc D (mw q d lt pm ab dm (nI c)) (mt d) [.ref (q 0), .int p0, .int p1]) (gQi D (mwS q d) (fun (r : Int32) (u : MS) => ∃ ab1 : Nat → Int32, u = (lt, pm, ab1, dm, nI c) ∧ r = lsM ((List.range (2 ^ c)).filter F) p1) (gA 4 q)) 0 0 (gA 4 q) := by
  refine g_met (by decide) (Nat.le_of_ble_eq_true rfl) ?_
  intro p e s m below meth cd hx hb hr hml hown hts hlocks hname hP hK ls hl
  have hown : s.vm.findClass RX1 = some m.cls := hown
  have hl : lv_has ls 5 [(0, .ref (q 0)), (1, .int p0), (2, .int p1)] := hl
  have hS : va_S (gA 4 q) s.heap s.heap [] := va_S.rf
  have h512 := pow9 hc9
  refine lv_aload_n hx hb dX1_listed_0 rfl (lv_at hl 0 rfl) ?_
  refine g_callv (va_runV (As := []) (rest := []) ⟨hx, hb, hml, hown, hts⟩ (mX1_work l D q d lt pm ab dm c hq hc9) (cwV 0 hts (lw_V q293 q295 qs20 q27 q296) rfl rfl rfl (by decide +kernel) ⟨Nat.le_of_ble_eq_true rfl, Nat.le_of_ble_eq_true rfl⟩) (m_preV _ hK hP) rfl rfl hl.1 rfl (lv_room (Nat.le_of_ble_eq_true rfl)) dX1_listed_1 ⟨Nat.le_of_ble_eq_true rfl, Nat.le_of_ble_eq_true rfl⟩) hS (fun u H locs hu hP hS => ?_)
  obtain ⟨ab1, rfl, hab⟩ := hu
  have hP : va_P D vwCl (mw q d lt pm ab1 dm (nI c)) H := hP
  refine lv_iconst (v := 0) hx hb dX1_listed_4 (by decide) ?_
  refine lv_istore_n (lv' := [(3, .int 0), (0, .ref (q 0)), (1, .int p0), (2, .int p1)]) hx hb dX1_listed_5 rfl hl (by decide) rfl (fun ls hl => ?_)
  refine lv_iconst (v := 0) hx hb dX1_listed_6 (by decide) ?_
  refine lv_istore (lv' := [(4, .int 0), (3, .int 0), (0, .ref (q 0)), (1, .int p0), (2, .int p1)]) hx hb dX1_listed_7 hl (by decide) rfl (fun ls hl => ?_)
  refine g_loopH (pc := 9) (P := fun n H locs ls => ∃ (k : Nat) (y : Nat), (k + n = 2 ^ c) ∧ (y = ((List.range k).filter F).length) ∧ (y ≤ k) ∧ (∀ i, i < y → ¬ nI i = p1) ∧ va_P D vwCl (mw q d lt pm ab1 dm (nI c)) H ∧ va_S (gA 4 q) s.heap H locs ∧ lv_has ls 5 [(0, .ref (q 0)), (1, .int p0), (2, .int p1), (3, .int (nI y)), (4, .int (nI k))]) ?_ (2 ^ c) _ _ _ ⟨0, 0, Nat.zero_add _, rfl, Nat.le_refl 0, fun i h => absurd h (Nat.not_lt_zero i), hP, hS, lv_sub hl [2, 3, 4, 1, 0] rfl⟩
  intro n H locs ls hh ih
  obtain ⟨k, y, hk, hy, hyk, hno, hP, hS, hl⟩ := hh
  refine lv_iload hx hb dX1_listed_9 (lv_at hl 4 rfl) ?_
  refine lv_iconst (v := 1) hx hb dX1_listed_11 (by decide) ?_
  refine lv_aload_n hx hb dX1_listed_12 rfl (lv_at hl 0 rfl) ?_
  refine va_get (D := D) (ci := 1) (v := .int (nI c)) (C := RX1) (T := TX1) (N := 5) hx hb hts in_X1 hown hK hP 0 rfl rfl 1 (by decide) (hts _ q213) (fun _ h9 => h9) rfl dX1_listed_13 ?_
  refine lv_ishl hx hb dX1_listed_16 ?_
  refine g_tw (y := nI (2 ^ c)) (shl1 c (by omega)) ?_
  refine lv_icmp_ge (tgt := 70) hx hb dX1_listed_17 (by decide) (fun c_17 => ?_) (fun c_17 => ?_)
  · have hkc : k = 2 ^ c := c_eq (by omega) (by omega) c_17
    refine lv_iload_n hx hb dX1_listed_70 rfl (lv_at hl 2 rfl) ?_
    refine lv_iconst (v := (-1)) hx hb dX1_listed_71 (by decide) ?_
    refine lv_icmp_ne (tgt := 79) hx hb dX1_listed_72 (by decide) (fun c_72 => ?_) (fun c_72 => ?_)
    · refine lv_iconst (v := (-1)) hx hb dX1_listed_79 (by decide) ?_
      exact g_reti (lt, pm, ab1, dm, nI c) hx hb hr hlocks hP hS (⟨ab1, rfl, by rw [← hkc]; exact (lsM_end (by omega) (by rw [← hy]; exact hno) c_72).symm⟩) dX1_listed_80
    · refine lv_iload_n hx hb dX1_listed_75 rfl (lv_at hl 3 rfl) ?_
      refine lv_goto (tgt := 80) hx hb dX1_listed_76 (by decide) ?_
      exact g_reti (lt, pm, ab1, dm, nI c) hx hb hr hlocks hP hS (⟨ab1, rfl, by unfold lsM; rw [if_pos c_72, ← hkc, ← hy]⟩) dX1_listed_80
  · have hlt : k < 2 ^ c := c_lt (by omega) (by omega) c_17
    refine lv_iload hx hb dX1_listed_20 (lv_at hl 4 rfl) ?_
    refine lv_sipush (v := 512) hx hb dX1_listed_22 (by decide) ?_
    refine lv_icmp_ge (tgt := 70) hx hb dX1_listed_25 (by decide) (fun c_25 => ?_) (fun c_25 => ?_)
    · exact absurd c_25 (nI_ge (b := 512) (by omega) (by decide))
    · refine lv_iload_n hx hb dX1_listed_28 rfl (lv_at hl 1 rfl) ?_
      refine lv_if_eq (tgt := 44) hx hb dX1_listed_29 (by decide) (fun c_29 => ?_) (fun c_29 => ?_)
      · have hFe : F = isC (okM lt c) c := by rcases hF with h | h; exact absurd c_29 h.1; exact h.2
        refine lv_aload_n hx hb dX1_listed_44 rfl (lv_at hl 0 rfl) ?_
        refine lv_iload hx hb dX1_listed_45 (lv_at hl 4 rfl) ?_
        refine g_callR (W.runV (As := [.int (nI k)]) (rest := []) ⟨hx, hb, hml, hown, hts⟩ (mX1_isCorrection l D q d lt pm ab1 dm c k hc9 (okM lt c) (by omega) hab) (cwV 1 hts (lw_V q301 q303 qs22 q27 q304) rfl rfl rfl (by decide +kernel) ⟨Nat.le_of_ble_eq_true rfl, Nat.le_of_ble_eq_true rfl⟩) (m_preV _ hK hP) rfl rfl hl.1 rfl (lv_room (Nat.le_of_ble_eq_true rfl)) dX1_listed_47 ⟨Nat.le_of_ble_eq_true rfl, Nat.le_of_ble_eq_true rfl⟩) ?_
        refine lv_if_eq (tgt := 64) hx hb dX1_listed_50 (by decide) (fun c_50 => ?_) (fun c_50 => ?_)
        · have hFk : F k = false := by rw [hFe]; exact b2i_0.mp c_50
          refine lv_iinc (v := nI (k + 1)) (lv' := [(4, .int (nI (k + 1))), (0, .ref (q 0)), (1, .int p0), (2, .int p1), (3, .int (nI y))]) hx hb dX1_listed_64 hl (k := 4) rfl (inc1 _) (by decide) rfl (fun ls hl => ?_)
          refine lv_goto (tgt := 9) hx hb dX1_listed_67 (by decide) ?_
          exact ih (n - 1) _ _ _ (by omega) ⟨(k + 1), y, by omega, by rw [filt_len, hFk]; exact hy, by omega, hno, hP, hS, lv_sub hl [1, 2, 3, 4, 0] rfl⟩
        · have hFk : F k = true := by rw [hFe]; exact b2i_nz c_50
          refine lv_iload_n hx hb dX1_listed_53 rfl (lv_at hl 3 rfl) ?_
          refine lv_iload_n hx hb dX1_listed_54 rfl (lv_at hl 2 rfl) ?_
          refine lv_icmp_ne (tgt := 61) hx hb dX1_listed_55 (by decide) (fun c_55 => ?_) (fun c_55 => ?_)
          · refine lv_iinc (v := nI (y + 1)) (lv' := [(3, .int (nI (y + 1))), (0, .ref (q 0)), (1, .int p0), (2, .int p1), (4, .int (nI k))]) hx hb dX1_listed_61 hl (k := 3) rfl (inc1 _) (by decide) rfl (fun ls hl => ?_)
            refine lv_iinc (v := nI (k + 1)) (lv' := [(4, .int (nI (k + 1))), (3, .int (nI (y + 1))), (0, .ref (q 0)), (1, .int p0), (2, .int p1)]) hx hb dX1_listed_64 hl (k := 4) rfl (inc1 _) (by decide) rfl (fun ls hl => ?_)
            refine lv_goto (tgt := 9) hx hb dX1_listed_67 (by decide) ?_
            exact ih (n - 1) _ _ _ (by omega) ⟨(k + 1), (y + 1), by omega, by rw [filt_len, hFk, hy]; rfl, by omega, fun i hi => by rcases Nat.eq_or_lt_of_le (Nat.le_of_lt_succ hi) with r | r; (subst r; exact c_55); exact hno i r, hP, hS, lv_sub hl [2, 3, 4, 1, 0] rfl⟩
          · refine lv_iload hx hb dX1_listed_58 (lv_at hl 4 rfl) ?_
            exact g_reti (lt, pm, ab1, dm, nI c) hx hb hr hlocks hP hS (⟨ab1, rfl, (lsM_hit (by omega) hlt hFk hy c_55).symm⟩) dX1_listed_60
      · have hFe : F = isK (okM lt c) c := by rcases hF with h | h; exact h.2; exact absurd h.1 c_29
        refine lv_aload_n hx hb dX1_listed_32 rfl (lv_at hl 0 rfl) ?_
        refine lv_iload hx hb dX1_listed_33 (lv_at hl 4 rfl) ?_
        refine g_callR (W.runV (As := [.int (nI k)]) (rest := []) ⟨hx, hb, hml, hown, hts⟩ (mX1_isKernel l D q d lt pm ab1 dm c k hc9 (okM lt c) (by omega) hab) (cwV 1 hts (lw_V q297 q299 qs21 q27 q300) rfl rfl rfl (by decide +kernel) ⟨Nat.le_of_ble_eq_true rfl, Nat.le_of_ble_eq_true rfl⟩) (m_preV _ hK hP) rfl rfl hl.1 rfl (lv_room (Nat.le_of_ble_eq_true rfl)) dX1_listed_35 ⟨Nat.le_of_ble_eq_true rfl, Nat.le_of_ble_eq_true rfl⟩) ?_
        refine lv_if_eq (tgt := 64) hx hb dX1_listed_38 (by decide) (fun c_38 => ?_) (fun c_38 => ?_)
        · have hFk : F k = false := by rw [hFe]; exact b2i_0.mp c_38
          refine lv_iinc (v := nI (k + 1)) (lv' := [(4, .int (nI (k + 1))), (0, .ref (q 0)), (1, .int p0), (2, .int p1), (3, .int (nI y))]) hx hb dX1_listed_64 hl (k := 4) rfl (inc1 _) (by decide) rfl (fun ls hl => ?_)
          refine lv_goto (tgt := 9) hx hb dX1_listed_67 (by decide) ?_
          exact ih (n - 1) _ _ _ (by omega) ⟨(k + 1), y, by omega, by rw [filt_len, hFk]; exact hy, by omega, hno, hP, hS, lv_sub hl [1, 2, 3, 4, 0] rfl⟩
        · have hFk : F k = true := by rw [hFe]; exact b2i_nz c_38
          refine lv_goto (tgt := 53) hx hb dX1_listed_41 (by decide) ?_
          refine lv_iload_n hx hb dX1_listed_53 rfl (lv_at hl 3 rfl) ?_
          refine lv_iload_n hx hb dX1_listed_54 rfl (lv_at hl 2 rfl) ?_
          refine lv_icmp_ne (tgt := 61) hx hb dX1_listed_55 (by decide) (fun c_55 => ?_) (fun c_55 => ?_)
          · refine lv_iinc (v := nI (y + 1)) (lv' := [(3, .int (nI (y + 1))), (0, .ref (q 0)), (1, .int p0), (2, .int p1), (4, .int (nI k))]) hx hb dX1_listed_61 hl (k := 3) rfl (inc1 _) (by decide) rfl (fun ls hl => ?_)
            refine lv_iinc (v := nI (k + 1)) (lv' := [(4, .int (nI (k + 1))), (3, .int (nI (y + 1))), (0, .ref (q 0)), (1, .int p0), (2, .int p1)]) hx hb dX1_listed_64 hl (k := 4) rfl (inc1 _) (by decide) rfl (fun ls hl => ?_)
            refine lv_goto (tgt := 9) hx hb dX1_listed_67 (by decide) ?_
            exact ih (n - 1) _ _ _ (by omega) ⟨(k + 1), (y + 1), by omega, by rw [filt_len, hFk, hy]; rfl, by omega, fun i hi => by rcases Nat.eq_or_lt_of_le (Nat.le_of_lt_succ hi) with r | r; (subst r; exact c_55); exact hno i r, hP, hS, lv_sub hl [2, 3, 4, 1, 0] rfl⟩
          · refine lv_iload hx hb dX1_listed_58 (lv_at hl 4 rfl) ?_
            exact g_reti (lt, pm, ab1, dm, nI c) hx hb hr hlocks hP hS (⟨ab1, rfl, (lsM_hit (by omega) hlt hFk hy c_55).symm⟩) dX1_listed_60

set_option maxHeartbeats 4000000 in
theorem mX1_kernels (l : Launch) (D : va_G) (q : Nat → Nat) (d : Nat → ClassId) (lt : Nat → Int32) (pm : Nat → Int32) (ab : Nat → Int32) (dm : Int32) (c : Nat) (hq : gJ 4 q) (hc9 : c ≤ 9) : Met l yX1_kernels (ws_ yX1_kernels cX1_kernels 1 (some .int)) ({ frames := 5, cells := 0, slots := 0, locals := 114 } : Room) (gPc D (mw q d lt pm ab dm (nI c)) (mt d) [.ref (q 0)]) (gQi D (mwS q d) (fun (r : Int32) (u : MS) => ∃ ab1 : Nat → Int32, u = (lt, pm, ab1, dm, nI c) ∧ r = nI (KL (okM lt c) c).length) (gA 4 q)) 0 0 (gA 4 q) := by
  refine g_met (by decide) (Nat.le_of_ble_eq_true rfl) ?_
  intro p e s m below meth cd hx hb hr hml hown hts hlocks hname hP hK ls hl
  have hown : s.vm.findClass RX1 = some m.cls := hown
  have hl : lv_has ls 1 [(0, .ref (q 0))] := hl
  have hS : va_S (gA 4 q) s.heap s.heap [] := va_S.rf
  refine lv_aload_n hx hb dX1_kernels_0 rfl (lv_at hl 0 rfl) ?_
  refine lv_iconst (v := 1) hx hb dX1_kernels_1 (by decide) ?_
  refine lv_iconst (v := (-1)) hx hb dX1_kernels_2 (by decide) ?_
  refine g_calli (va_runV (As := [.int 1, .int (-1)]) (rest := []) ⟨hx, hb, hml, hown, hts⟩ (mX1_listed l D q d lt pm ab dm c 1 (-1) hq hc9 (isK (okM lt c) c) (Or.inl ⟨by decide, rfl⟩)) (cwV 2 hts (lw_V q289 q291 qs19 q27 q292) rfl rfl rfl (by decide +kernel) ⟨Nat.le_of_ble_eq_true rfl, Nat.le_of_ble_eq_true rfl⟩) (m_preV _ hK hP) rfl rfl hl.1 rfl (lv_room (Nat.le_of_ble_eq_true rfl)) dX1_kernels_3 ⟨Nat.le_of_ble_eq_true rfl, Nat.le_of_ble_eq_true rfl⟩) hS (fun r_3 u H locs hu hP hS => ?_)
  obtain ⟨ab1, rfl, hr1⟩ := hu
  have hP : va_P D vwCl (mw q d lt pm ab1 dm (nI c)) H := hP
  exact g_reti (lt, pm, ab1, dm, nI c) hx hb hr hlocks hP hS (⟨ab1, rfl, hr1⟩) dX1_kernels_6

set_option maxHeartbeats 4000000 in
theorem mX1_corrections (l : Launch) (D : va_G) (q : Nat → Nat) (d : Nat → ClassId) (lt : Nat → Int32) (pm : Nat → Int32) (ab : Nat → Int32) (dm : Int32) (c : Nat) (hq : gJ 4 q) (hc9 : c ≤ 9) : Met l yX1_corrections (ws_ yX1_corrections cX1_corrections 1 (some .int)) ({ frames := 5, cells := 0, slots := 0, locals := 114 } : Room) (gPc D (mw q d lt pm ab dm (nI c)) (mt d) [.ref (q 0)]) (gQi D (mwS q d) (fun (r : Int32) (u : MS) => ∃ ab1 : Nat → Int32, u = (lt, pm, ab1, dm, nI c) ∧ r = nI (FL (okM lt c) c).length) (gA 4 q)) 0 0 (gA 4 q) := by
  refine g_met (by decide) (Nat.le_of_ble_eq_true rfl) ?_
  intro p e s m below meth cd hx hb hr hml hown hts hlocks hname hP hK ls hl
  have hown : s.vm.findClass RX1 = some m.cls := hown
  have hl : lv_has ls 1 [(0, .ref (q 0))] := hl
  have hS : va_S (gA 4 q) s.heap s.heap [] := va_S.rf
  refine lv_aload_n hx hb dX1_corrections_0 rfl (lv_at hl 0 rfl) ?_
  refine lv_iconst (v := 0) hx hb dX1_corrections_1 (by decide) ?_
  refine lv_iconst (v := (-1)) hx hb dX1_corrections_2 (by decide) ?_
  refine g_calli (va_runV (As := [.int 0, .int (-1)]) (rest := []) ⟨hx, hb, hml, hown, hts⟩ (mX1_listed l D q d lt pm ab dm c 0 (-1) hq hc9 (isC (okM lt c) c) (Or.inr ⟨rfl, rfl⟩)) (cwV 2 hts (lw_V q289 q291 qs19 q27 q292) rfl rfl rfl (by decide +kernel) ⟨Nat.le_of_ble_eq_true rfl, Nat.le_of_ble_eq_true rfl⟩) (m_preV _ hK hP) rfl rfl hl.1 rfl (lv_room (Nat.le_of_ble_eq_true rfl)) dX1_corrections_3 ⟨Nat.le_of_ble_eq_true rfl, Nat.le_of_ble_eq_true rfl⟩) hS (fun r_3 u H locs hu hP hS => ?_)
  obtain ⟨ab1, rfl, hr1⟩ := hu
  have hP : va_P D vwCl (mw q d lt pm ab1 dm (nI c)) H := hP
  exact g_reti (lt, pm, ab1, dm, nI c) hx hb hr hlocks hP hS (⟨ab1, rfl, hr1⟩) dX1_corrections_6

set_option maxHeartbeats 4000000 in
theorem mX1_kernel (l : Launch) (D : va_G) (q : Nat → Nat) (d : Nat → ClassId) (lt : Nat → Int32) (pm : Nat → Int32) (ab : Nat → Int32) (dm : Int32) (c : Nat) (p0 : Int32) (hq : gJ 4 q) (hc9 : c ≤ 9) : Met l yX1_kernel (ws_ yX1_kernel cX1_kernel 2 (some .int)) ({ frames := 5, cells := 0, slots := 0, locals := 114 } : Room) (gPc D (mw q d lt pm ab dm (nI c)) (mt d) [.ref (q 0), .int p0]) (gQi D (mwS q d) (fun (r : Int32) (u : MS) => ∃ ab1 : Nat → Int32, u = (lt, pm, ab1, dm, nI c) ∧ r = lsI (KL (okM lt c) c) p0) (gA 4 q)) 0 0 (gA 4 q) := by
  refine g_met (by decide) (Nat.le_of_ble_eq_true rfl) ?_
  intro p e s m below meth cd hx hb hr hml hown hts hlocks hname hP hK ls hl
  have hown : s.vm.findClass RX1 = some m.cls := hown
  have hl : lv_has ls 2 [(0, .ref (q 0)), (1, .int p0)] := hl
  have hS : va_S (gA 4 q) s.heap s.heap [] := va_S.rf
  refine lv_iload_n hx hb dX1_kernel_0 rfl (lv_at hl 1 rfl) ?_
  refine lv_if_ge (tgt := 8) hx hb dX1_kernel_1 (by decide) (fun c_1 => ?_) (fun c_1 => ?_)
  · refine lv_aload_n hx hb dX1_kernel_8 rfl (lv_at hl 0 rfl) ?_
    refine lv_iconst (v := 1) hx hb dX1_kernel_9 (by decide) ?_
    refine lv_iload_n hx hb dX1_kernel_10 rfl (lv_at hl 1 rfl) ?_
    refine g_calli (va_runV (As := [.int 1, .int p0]) (rest := []) ⟨hx, hb, hml, hown, hts⟩ (mX1_listed l D q d lt pm ab dm c 1 p0 hq hc9 (isK (okM lt c) c) (Or.inl ⟨by decide, rfl⟩)) (cwV 2 hts (lw_V q289 q291 qs19 q27 q292) rfl rfl rfl (by decide +kernel) ⟨Nat.le_of_ble_eq_true rfl, Nat.le_of_ble_eq_true rfl⟩) (m_preV _ hK hP) rfl rfl hl.1 rfl (lv_room (Nat.le_of_ble_eq_true rfl)) dX1_kernel_11 ⟨Nat.le_of_ble_eq_true rfl, Nat.le_of_ble_eq_true rfl⟩) hS (fun r_11 u H locs hu hP hS => ?_)
    obtain ⟨ab1, rfl, hr1⟩ := hu
    have hP : va_P D vwCl (mw q d lt pm ab1 dm (nI c)) H := hP
    exact g_reti (lt, pm, ab1, dm, nI c) hx hb hr hlocks hP hS (⟨ab1, rfl, by rw [hr1]; exact if_neg (fun e => absurd (show (0 : Int32) ≤ -1 by rw [← e]; exact c_1) (by decide))⟩) dX1_kernel_14
  · refine lv_iconst (v := (-1)) hx hb dX1_kernel_4 (by decide) ?_
    refine lv_goto (tgt := 14) hx hb dX1_kernel_5 (by decide) ?_
    exact g_reti (lt, pm, ab, dm, nI c) hx hb hr hlocks hP hS (⟨ab, rfl, (lsI_neg (Int32.not_le.mp c_1)).symm⟩) dX1_kernel_14

set_option maxHeartbeats 4000000 in
theorem mX1_correction (l : Launch) (D : va_G) (q : Nat → Nat) (d : Nat → ClassId) (lt : Nat → Int32) (pm : Nat → Int32) (ab : Nat → Int32) (dm : Int32) (c : Nat) (p0 : Int32) (hq : gJ 4 q) (hc9 : c ≤ 9) : Met l yX1_correction (ws_ yX1_correction cX1_correction 2 (some .int)) ({ frames := 5, cells := 0, slots := 0, locals := 114 } : Room) (gPc D (mw q d lt pm ab dm (nI c)) (mt d) [.ref (q 0), .int p0]) (gQi D (mwS q d) (fun (r : Int32) (u : MS) => ∃ ab1 : Nat → Int32, u = (lt, pm, ab1, dm, nI c) ∧ r = lsI (FL (okM lt c) c) p0) (gA 4 q)) 0 0 (gA 4 q) := by
  refine g_met (by decide) (Nat.le_of_ble_eq_true rfl) ?_
  intro p e s m below meth cd hx hb hr hml hown hts hlocks hname hP hK ls hl
  have hown : s.vm.findClass RX1 = some m.cls := hown
  have hl : lv_has ls 2 [(0, .ref (q 0)), (1, .int p0)] := hl
  have hS : va_S (gA 4 q) s.heap s.heap [] := va_S.rf
  refine lv_iload_n hx hb dX1_correction_0 rfl (lv_at hl 1 rfl) ?_
  refine lv_if_ge (tgt := 8) hx hb dX1_correction_1 (by decide) (fun c_1 => ?_) (fun c_1 => ?_)
  · refine lv_aload_n hx hb dX1_correction_8 rfl (lv_at hl 0 rfl) ?_
    refine lv_iconst (v := 0) hx hb dX1_correction_9 (by decide) ?_
    refine lv_iload_n hx hb dX1_correction_10 rfl (lv_at hl 1 rfl) ?_
    refine g_calli (va_runV (As := [.int 0, .int p0]) (rest := []) ⟨hx, hb, hml, hown, hts⟩ (mX1_listed l D q d lt pm ab dm c 0 p0 hq hc9 (isC (okM lt c) c) (Or.inr ⟨rfl, rfl⟩)) (cwV 2 hts (lw_V q289 q291 qs19 q27 q292) rfl rfl rfl (by decide +kernel) ⟨Nat.le_of_ble_eq_true rfl, Nat.le_of_ble_eq_true rfl⟩) (m_preV _ hK hP) rfl rfl hl.1 rfl (lv_room (Nat.le_of_ble_eq_true rfl)) dX1_correction_11 ⟨Nat.le_of_ble_eq_true rfl, Nat.le_of_ble_eq_true rfl⟩) hS (fun r_11 u H locs hu hP hS => ?_)
    obtain ⟨ab1, rfl, hr1⟩ := hu
    have hP : va_P D vwCl (mw q d lt pm ab1 dm (nI c)) H := hP
    exact g_reti (lt, pm, ab1, dm, nI c) hx hb hr hlocks hP hS (⟨ab1, rfl, by rw [hr1]; exact if_neg (fun e => absurd (show (0 : Int32) ≤ -1 by rw [← e]; exact c_1) (by decide))⟩) dX1_correction_14
  · refine lv_iconst (v := (-1)) hx hb dX1_correction_4 (by decide) ?_
    refine lv_goto (tgt := 14) hx hb dX1_correction_5 (by decide) ?_
    exact g_reti (lt, pm, ab, dm, nI c) hx hb hr hlocks hP hS (⟨ab, rfl, (lsI_neg (Int32.not_le.mp c_1)).symm⟩) dX1_correction_14

set_option maxHeartbeats 4000000 in
theorem mX1_best (l : Launch) (D : va_G) (q : Nat → Nat) (d : Nat → ClassId) (lt : Nat → Int32) (pm : Nat → Int32) (ab : Nat → Int32) (dm : Int32) (c : Nat) (hq : gJ 4 q) (hc9 : c ≤ 9) : Met l yX1_best (ws_ yX1_best cX1_best 3 (some .int)) ({ frames := 4, cells := 0, slots := 0, locals := 90 } : Room) (gPc D (mw q d lt pm ab dm (nI c)) (mt d) [.ref (q 0)]) (gQi D (mwS q d) (fun (r : Int32) (u : MS) => ∃ ab1 : Nat → Int32, u = (lt, pm, ab1, dm, nI c) ∧ r = (FL (okM lt c) c).foldl (stW (fun x => priF pm x c)) (-1)) (gA 4 q)) 0 0 (gA 4 q) := by
  refine g_met (by decide) (Nat.le_of_ble_eq_true rfl) ?_
  intro p e s m below meth cd hx hb hr hml hown hts hlocks hname hP hK ls hl
  have hown : s.vm.findClass RX1 = some m.cls := hown
  have hl : lv_has ls 3 [(0, .ref (q 0))] := hl
  have hS : va_S (gA 4 q) s.heap s.heap [] := va_S.rf
  have h512 := pow9 hc9
  refine lv_aload_n hx hb dX1_best_0 rfl (lv_at hl 0 rfl) ?_
  refine g_callv (va_runV (As := []) (rest := []) ⟨hx, hb, hml, hown, hts⟩ (mX1_work l D q d lt pm ab dm c hq hc9) (cwV 0 hts (lw_V q293 q295 qs20 q27 q296) rfl rfl rfl (by decide +kernel) ⟨Nat.le_of_ble_eq_true rfl, Nat.le_of_ble_eq_true rfl⟩) (m_preV _ hK hP) rfl rfl hl.1 rfl (lv_room (Nat.le_of_ble_eq_true rfl)) dX1_best_1 ⟨Nat.le_of_ble_eq_true rfl, Nat.le_of_ble_eq_true rfl⟩) hS (fun u H locs hu hP hS => ?_)
  obtain ⟨ab1, rfl, hab⟩ := hu
  have hP : va_P D vwCl (mw q d lt pm ab1 dm (nI c)) H := hP
  refine lv_iconst (v := (-1)) hx hb dX1_best_4 (by decide) ?_
  refine lv_istore_n (lv' := [(1, .int (-1)), (0, .ref (q 0))]) hx hb dX1_best_5 rfl hl (by decide) rfl (fun ls hl => ?_)
  refine lv_iconst (v := 0) hx hb dX1_best_6 (by decide) ?_
  refine lv_istore_n (lv' := [(2, .int 0), (1, .int (-1)), (0, .ref (q 0))]) hx hb dX1_best_7 rfl hl (by decide) rfl (fun ls hl => ?_)
  refine g_loopH (pc := 8) (P := fun n H locs ls => ∃ (k : Nat) (x : Int32), (k + n = 2 ^ c) ∧ (x = ((List.range k).filter (isC (okM lt c) c)).foldl (stW (fun x => priF pm x c)) (-1)) ∧ va_P D vwCl (mw q d lt pm ab1 dm (nI c)) H ∧ va_S (gA 4 q) s.heap H locs ∧ lv_has ls 3 [(0, .ref (q 0)), (1, .int x), (2, .int (nI k))]) ?_ (2 ^ c) _ _ _ ⟨0, (-1), Nat.zero_add _, rfl, hP, hS, lv_sub hl [2, 1, 0] rfl⟩
  intro n H locs ls hh ih
  obtain ⟨k, x, hk, ex, hP, hS, hl⟩ := hh
  refine lv_iload_n hx hb dX1_best_8 rfl (lv_at hl 2 rfl) ?_
  refine lv_iconst (v := 1) hx hb dX1_best_9 (by decide) ?_
  refine lv_aload_n hx hb dX1_best_10 rfl (lv_at hl 0 rfl) ?_
  refine va_get (D := D) (ci := 1) (v := .int (nI c)) (C := RX1) (T := TX1) (N := 5) hx hb hts in_X1 hown hK hP 0 rfl rfl 1 (by decide) (hts _ q213) (fun _ h9 => h9) rfl dX1_best_11 ?_
  refine lv_ishl hx hb dX1_best_14 ?_
  refine g_tw (y := nI (2 ^ c)) (shl1 c (by omega)) ?_
  refine lv_icmp_ge (tgt := 58) hx hb dX1_best_15 (by decide) (fun c_15 => ?_) (fun c_15 => ?_)
  · have hkc : k = 2 ^ c := c_eq (by omega) (by omega) c_15
    refine lv_iload_n hx hb dX1_best_58 rfl (lv_at hl 1 rfl) ?_
    exact g_reti (lt, pm, ab1, dm, nI c) hx hb hr hlocks hP hS (⟨ab1, rfl, by rw [ex, hkc]; rfl⟩) dX1_best_59
  · have hlt : k < 2 ^ c := c_lt (by omega) (by omega) c_15
    refine lv_iload_n hx hb dX1_best_18 rfl (lv_at hl 2 rfl) ?_
    refine lv_sipush (v := 512) hx hb dX1_best_19 (by decide) ?_
    refine lv_icmp_ge (tgt := 58) hx hb dX1_best_22 (by decide) (fun c_22 => ?_) (fun c_22 => ?_)
    · exact absurd c_22 (nI_ge (b := 512) (by omega) (by decide))
    · refine lv_aload_n hx hb dX1_best_25 rfl (lv_at hl 0 rfl) ?_
      refine lv_iload_n hx hb dX1_best_26 rfl (lv_at hl 2 rfl) ?_
      refine g_callR (W.runV (As := [.int (nI k)]) (rest := []) ⟨hx, hb, hml, hown, hts⟩ (mX1_isCorrection l D q d lt pm ab1 dm c k hc9 (okM lt c) (by omega) hab) (cwV 1 hts (lw_V q301 q303 qs22 q27 q304) rfl rfl rfl (by decide +kernel) ⟨Nat.le_of_ble_eq_true rfl, Nat.le_of_ble_eq_true rfl⟩) (m_preV _ hK hP) rfl rfl hl.1 rfl (lv_room (Nat.le_of_ble_eq_true rfl)) dX1_best_27 ⟨Nat.le_of_ble_eq_true rfl, Nat.le_of_ble_eq_true rfl⟩) ?_
      refine lv_if_eq (tgt := 52) hx hb dX1_best_30 (by decide) (fun c_30 => ?_) (fun c_30 => ?_)
      · refine lv_iinc (v := nI (k + 1)) (lv' := [(2, .int (nI (k + 1))), (0, .ref (q 0)), (1, .int x)]) hx hb dX1_best_52 hl (k := 2) rfl (inc1 _) (by decide) rfl (fun ls hl => ?_)
        refine lv_goto (tgt := 8) hx hb dX1_best_55 (by decide) ?_
        exact ih (n - 1) _ _ _ (by omega) ⟨(k + 1), x, by omega, by rw [fold_filt, ← ex, b2i_0.mp c_30]; exact rfl, hP, hS, lv_sub hl [1, 2, 0] rfl⟩
      · refine lv_iload_n hx hb dX1_best_33 rfl (lv_at hl 1 rfl) ?_
        refine lv_if_lt (tgt := 50) hx hb dX1_best_34 (by decide) (fun c_34 => ?_) (fun c_34 => ?_)
        · refine lv_iload_n hx hb dX1_best_50 rfl (lv_at hl 2 rfl) ?_
          refine lv_istore_n (lv' := [(1, .int (nI k)), (0, .ref (q 0)), (2, .int (nI k))]) hx hb dX1_best_51 rfl hl (by decide) rfl (fun ls hl => ?_)
          refine lv_iinc (v := nI (k + 1)) (lv' := [(2, .int (nI (k + 1))), (1, .int (nI k)), (0, .ref (q 0))]) hx hb dX1_best_52 hl (k := 2) rfl (inc1 _) (by decide) rfl (fun ls hl => ?_)
          refine lv_goto (tgt := 8) hx hb dX1_best_55 (by decide) ?_
          exact ih (n - 1) _ _ _ (by omega) ⟨(k + 1), nI k, by omega, by rw [fold_filt, ← ex, b2i_nz c_30, if_pos rfl]; exact (if_pos (Or.inl c_34)).symm, hP, hS, lv_sub hl [2, 1, 0] rfl⟩
        · refine lv_aload_n hx hb dX1_best_37 rfl (lv_at hl 0 rfl) ?_
          refine lv_iload_n hx hb dX1_best_38 rfl (lv_at hl 2 rfl) ?_
          refine g_callR (W.runV (As := [.int (nI k)]) (rest := []) ⟨hx, hb, hml, hown, hts⟩ (mX1_worth l D q d lt pm ab1 dm c (nI k) hc9) (cwV 1 hts (lw_V q325 q327 qs24 q27 q328) rfl rfl rfl (by decide +kernel) ⟨Nat.le_of_ble_eq_true rfl, Nat.le_of_ble_eq_true rfl⟩) (m_preV _ hK hP) rfl rfl hl.1 rfl (lv_room (Nat.le_of_ble_eq_true rfl)) dX1_best_39 ⟨Nat.le_of_ble_eq_true rfl, Nat.le_of_ble_eq_true rfl⟩) ?_
          refine lv_aload_n hx hb dX1_best_42 rfl (lv_at hl 0 rfl) ?_
          refine lv_iload_n hx hb dX1_best_43 rfl (lv_at hl 1 rfl) ?_
          refine g_callR (W.runV (As := [.int x]) (rest := [.int (priF pm (nI k) c)]) ⟨hx, hb, hml, hown, hts⟩ (mX1_worth l D q d lt pm ab1 dm c x hc9) (cwV 1 hts (lw_V q325 q327 qs24 q27 q328) rfl rfl rfl (by decide +kernel) ⟨Nat.le_of_ble_eq_true rfl, Nat.le_of_ble_eq_true rfl⟩) (m_preV _ hK hP) rfl rfl hl.1 rfl (lv_room (Nat.le_of_ble_eq_true rfl)) dX1_best_44 ⟨Nat.le_of_ble_eq_true rfl, Nat.le_of_ble_eq_true rfl⟩) ?_
          refine lv_icmp_ge (tgt := 52) hx hb dX1_best_47 (by decide) (fun c_47 => ?_) (fun c_47 => ?_)
          · refine lv_iinc (v := nI (k + 1)) (lv' := [(2, .int (nI (k + 1))), (0, .ref (q 0)), (1, .int x)]) hx hb dX1_best_52 hl (k := 2) rfl (inc1 _) (by decide) rfl (fun ls hl => ?_)
            refine lv_goto (tgt := 8) hx hb dX1_best_55 (by decide) ?_
            exact ih (n - 1) _ _ _ (by omega) ⟨(k + 1), x, by omega, by rw [fold_filt, ← ex, b2i_nz c_30, if_pos rfl]; exact (if_neg (fun q => q.elim c_34 (Int32.not_lt.mpr c_47))).symm, hP, hS, lv_sub hl [1, 2, 0] rfl⟩
          · refine lv_iload_n hx hb dX1_best_50 rfl (lv_at hl 2 rfl) ?_
            refine lv_istore_n (lv' := [(1, .int (nI k)), (0, .ref (q 0)), (2, .int (nI k))]) hx hb dX1_best_51 rfl hl (by decide) rfl (fun ls hl => ?_)
            refine lv_iinc (v := nI (k + 1)) (lv' := [(2, .int (nI (k + 1))), (1, .int (nI k)), (0, .ref (q 0))]) hx hb dX1_best_52 hl (k := 2) rfl (inc1 _) (by decide) rfl (fun ls hl => ?_)
            refine lv_goto (tgt := 8) hx hb dX1_best_55 (by decide) ?_
            exact ih (n - 1) _ _ _ (by omega) ⟨(k + 1), nI k, by omega, by rw [fold_filt, ← ex, b2i_nz c_30, if_pos rfl]; exact (if_pos (Or.inr (Int32.not_le.mp c_47))).symm, hP, hS, lv_sub hl [2, 1, 0] rfl⟩

set_option maxHeartbeats 4000000 in
theorem mX1_cheapest (l : Launch) (D : va_G) (q : Nat → Nat) (d : Nat → ClassId) (lt : Nat → Int32) (pm : Nat → Int32) (ab : Nat → Int32) (dm : Int32) (c : Nat) (hq : gJ 4 q) (hc9 : c ≤ 9) : Met l yX1_cheapest (ws_ yX1_cheapest cX1_cheapest 2 (some .int)) ({ frames := 5, cells := 0, slots := 0, locals := 112 } : Room) (gPc D (mw q d lt pm ab dm (nI c)) (mt d) [.ref (q 0)]) (gQi D (mwS q d) (fun (r : Int32) (u : MS) => ∃ ab1 : Nat → Int32, u = (lt, pm, ab1, dm, nI c) ∧ r = priF pm ((FL (okM lt c) c).foldl (stW (fun x => priF pm x c)) (-1)) c) (gA 4 q)) 0 0 (gA 4 q) := by
  refine g_met (by decide) (Nat.le_of_ble_eq_true rfl) ?_
  intro p e s m below meth cd hx hb hr hml hown hts hlocks hname hP hK ls hl
  have hown : s.vm.findClass RX1 = some m.cls := hown
  have hl : lv_has ls 2 [(0, .ref (q 0))] := hl
  have hS : va_S (gA 4 q) s.heap s.heap [] := va_S.rf
  refine lv_aload_n hx hb dX1_cheapest_0 rfl (lv_at hl 0 rfl) ?_
  refine g_calli (va_runV (As := []) (rest := []) ⟨hx, hb, hml, hown, hts⟩ (mX1_best l D q d lt pm ab dm c hq hc9) (cwV 0 hts (lw_V q321 q323 qs23 q27 q324) rfl rfl rfl (by decide +kernel) ⟨Nat.le_of_ble_eq_true rfl, Nat.le_of_ble_eq_true rfl⟩) (m_preV _ hK hP) rfl rfl hl.1 rfl (lv_room (Nat.le_of_ble_eq_true rfl)) dX1_cheapest_1 ⟨Nat.le_of_ble_eq_true rfl, Nat.le_of_ble_eq_true rfl⟩) hS (fun x u H locs hu hP hS => ?_)
  obtain ⟨ab1, rfl, hr1⟩ := hu
  have hP : va_P D vwCl (mw q d lt pm ab1 dm (nI c)) H := hP
  refine lv_istore_n (lv' := [(1, .int x), (0, .ref (q 0))]) hx hb dX1_cheapest_4 rfl hl (by decide) rfl (fun ls hl => ?_)
  refine lv_aload_n hx hb dX1_cheapest_5 rfl (lv_at hl 1 rfl) ?_
  refine lv_iload_n hx hb dX1_cheapest_6 rfl (lv_at hl 0 rfl) ?_
  refine g_callR (W.runV (As := [.int x]) (rest := []) ⟨hx, hb, hml, hown, hts⟩ (mX1_worth l D q d lt pm ab1 dm c x hc9) (cwV 1 hts (lw_V q325 q327 qs24 q27 q328) rfl rfl rfl (by decide +kernel) ⟨Nat.le_of_ble_eq_true rfl, Nat.le_of_ble_eq_true rfl⟩) (m_preV _ hK hP) rfl rfl hl.1 rfl (lv_room (Nat.le_of_ble_eq_true rfl)) dX1_cheapest_7 ⟨Nat.le_of_ble_eq_true rfl, Nat.le_of_ble_eq_true rfl⟩) ?_
  exact g_reti (lt, pm, ab1, dm, nI c) hx hb hr hlocks hP hS (⟨ab1, rfl, by rw [hr1]⟩) dX1_cheapest_10

set_option maxHeartbeats 4000000 in
theorem mX1_cheapestSet (l : Launch) (D : va_G) (q : Nat → Nat) (d : Nat → ClassId) (lt : Nat → Int32) (pm : Nat → Int32) (ab : Nat → Int32) (dm : Int32) (c : Nat) (hq : gJ 4 q) (hc9 : c ≤ 9) : Met l yX1_cheapestSet (ws_ yX1_cheapestSet cX1_cheapestSet 1 (some .int)) ({ frames := 5, cells := 0, slots := 0, locals := 112 } : Room) (gPc D (mw q d lt pm ab dm (nI c)) (mt d) [.ref (q 0)]) (gQi D (mwS q d) (fun (r : Int32) (u : MS) => ∃ ab1 : Nat → Int32, u = (lt, pm, ab1, dm, nI c) ∧ r = (FL (okM lt c) c).foldl (stW (fun x => priF pm x c)) (-1)) (gA 4 q)) 0 0 (gA 4 q) := by
  refine g_met (by decide) (Nat.le_of_ble_eq_true rfl) ?_
  intro p e s m below meth cd hx hb hr hml hown hts hlocks hname hP hK ls hl
  have hown : s.vm.findClass RX1 = some m.cls := hown
  have hl : lv_has ls 1 [(0, .ref (q 0))] := hl
  have hS : va_S (gA 4 q) s.heap s.heap [] := va_S.rf
  refine lv_aload_n hx hb dX1_cheapestSet_0 rfl (lv_at hl 0 rfl) ?_
  refine g_calli (va_runV (As := []) (rest := []) ⟨hx, hb, hml, hown, hts⟩ (mX1_best l D q d lt pm ab dm c hq hc9) (cwV 0 hts (lw_V q321 q323 qs23 q27 q324) rfl rfl rfl (by decide +kernel) ⟨Nat.le_of_ble_eq_true rfl, Nat.le_of_ble_eq_true rfl⟩) (m_preV _ hK hP) rfl rfl hl.1 rfl (lv_room (Nat.le_of_ble_eq_true rfl)) dX1_cheapestSet_1 ⟨Nat.le_of_ble_eq_true rfl, Nat.le_of_ble_eq_true rfl⟩) hS (fun x u H locs hu hP hS => ?_)
  obtain ⟨ab1, rfl, hr1⟩ := hu
  have hP : va_P D vwCl (mw q d lt pm ab1 dm (nI c)) H := hP
  exact g_reti (lt, pm, ab1, dm, nI c) hx hb hr hlocks hP hS (⟨ab1, rfl, hr1⟩) dX1_cheapestSet_4

set_option maxHeartbeats 4000000 in
theorem mX1_smallest (l : Launch) (D : va_G) (q : Nat → Nat) (d : Nat → ClassId) (lt : Nat → Int32) (pm : Nat → Int32) (ab : Nat → Int32) (dm : Int32) (c : Nat) (hq : gJ 4 q) (hc9 : c ≤ 9) : Met l yX1_smallest (ws_ yX1_smallest cX1_smallest 3 (some .int)) ({ frames := 4, cells := 0, slots := 0, locals := 90 } : Room) (gPc D (mw q d lt pm ab dm (nI c)) (mt d) [.ref (q 0)]) (gQi D (mwS q d) (fun (r : Int32) (u : MS) => ∃ ab1 : Nat → Int32, u = (lt, pm, ab1, dm, nI c) ∧ r = (KL (okM lt c) c).foldl stS 0) (gA 4 q)) 0 0 (gA 4 q) := by
  refine g_met (by decide) (Nat.le_of_ble_eq_true rfl) ?_
  intro p e s m below meth cd hx hb hr hml hown hts hlocks hname hP hK ls hl
  have hown : s.vm.findClass RX1 = some m.cls := hown
  have hl : lv_has ls 3 [(0, .ref (q 0))] := hl
  have hS : va_S (gA 4 q) s.heap s.heap [] := va_S.rf
  have h512 := pow9 hc9
  refine lv_aload_n hx hb dX1_smallest_0 rfl (lv_at hl 0 rfl) ?_
  refine g_callv (va_runV (As := []) (rest := []) ⟨hx, hb, hml, hown, hts⟩ (mX1_work l D q d lt pm ab dm c hq hc9) (cwV 0 hts (lw_V q293 q295 qs20 q27 q296) rfl rfl rfl (by decide +kernel) ⟨Nat.le_of_ble_eq_true rfl, Nat.le_of_ble_eq_true rfl⟩) (m_preV _ hK hP) rfl rfl hl.1 rfl (lv_room (Nat.le_of_ble_eq_true rfl)) dX1_smallest_1 ⟨Nat.le_of_ble_eq_true rfl, Nat.le_of_ble_eq_true rfl⟩) hS (fun u H locs hu hP hS => ?_)
  obtain ⟨ab1, rfl, hab⟩ := hu
  have hP : va_P D vwCl (mw q d lt pm ab1 dm (nI c)) H := hP
  refine lv_iconst (v := 0) hx hb dX1_smallest_4 (by decide) ?_
  refine lv_istore_n (lv' := [(1, .int 0), (0, .ref (q 0))]) hx hb dX1_smallest_5 rfl hl (by decide) rfl (fun ls hl => ?_)
  refine lv_iconst (v := 0) hx hb dX1_smallest_6 (by decide) ?_
  refine lv_istore_n (lv' := [(2, .int 0), (1, .int 0), (0, .ref (q 0))]) hx hb dX1_smallest_7 rfl hl (by decide) rfl (fun ls hl => ?_)
  refine g_loopH (pc := 8) (P := fun n H locs ls => ∃ (k : Nat) (x : Int32), (k + n = 2 ^ c) ∧ (x = ((List.range k).filter (isK (okM lt c) c)).foldl stS 0) ∧ va_P D vwCl (mw q d lt pm ab1 dm (nI c)) H ∧ va_S (gA 4 q) s.heap H locs ∧ lv_has ls 3 [(0, .ref (q 0)), (1, .int x), (2, .int (nI k))]) ?_ (2 ^ c) _ _ _ ⟨0, 0, Nat.zero_add _, rfl, hP, hS, lv_sub hl [2, 1, 0] rfl⟩
  intro n H locs ls hh ih
  obtain ⟨k, x, hk, ex, hP, hS, hl⟩ := hh
  refine lv_iload_n hx hb dX1_smallest_8 rfl (lv_at hl 2 rfl) ?_
  refine lv_iconst (v := 1) hx hb dX1_smallest_9 (by decide) ?_
  refine lv_aload_n hx hb dX1_smallest_10 rfl (lv_at hl 0 rfl) ?_
  refine va_get (D := D) (ci := 1) (v := .int (nI c)) (C := RX1) (T := TX1) (N := 5) hx hb hts in_X1 hown hK hP 0 rfl rfl 1 (by decide) (hts _ q213) (fun _ h9 => h9) rfl dX1_smallest_11 ?_
  refine lv_ishl hx hb dX1_smallest_14 ?_
  refine g_tw (y := nI (2 ^ c)) (shl1 c (by omega)) ?_
  refine lv_icmp_ge (tgt := 58) hx hb dX1_smallest_15 (by decide) (fun c_15 => ?_) (fun c_15 => ?_)
  · have hkc : k = 2 ^ c := c_eq (by omega) (by omega) c_15
    refine lv_iload_n hx hb dX1_smallest_58 rfl (lv_at hl 1 rfl) ?_
    exact g_reti (lt, pm, ab1, dm, nI c) hx hb hr hlocks hP hS (⟨ab1, rfl, by rw [ex, hkc]; rfl⟩) dX1_smallest_59
  · have hlt : k < 2 ^ c := c_lt (by omega) (by omega) c_15
    refine lv_iload_n hx hb dX1_smallest_18 rfl (lv_at hl 2 rfl) ?_
    refine lv_sipush (v := 512) hx hb dX1_smallest_19 (by decide) ?_
    refine lv_icmp_ge (tgt := 58) hx hb dX1_smallest_22 (by decide) (fun c_22 => ?_) (fun c_22 => ?_)
    · exact absurd c_22 (nI_ge (b := 512) (by omega) (by decide))
    · refine lv_aload_n hx hb dX1_smallest_25 rfl (lv_at hl 0 rfl) ?_
      refine lv_iload_n hx hb dX1_smallest_26 rfl (lv_at hl 2 rfl) ?_
      refine g_callR (W.runV (As := [.int (nI k)]) (rest := []) ⟨hx, hb, hml, hown, hts⟩ (mX1_isKernel l D q d lt pm ab1 dm c k hc9 (okM lt c) (by omega) hab) (cwV 1 hts (lw_V q297 q299 qs21 q27 q300) rfl rfl rfl (by decide +kernel) ⟨Nat.le_of_ble_eq_true rfl, Nat.le_of_ble_eq_true rfl⟩) (m_preV _ hK hP) rfl rfl hl.1 rfl (lv_room (Nat.le_of_ble_eq_true rfl)) dX1_smallest_27 ⟨Nat.le_of_ble_eq_true rfl, Nat.le_of_ble_eq_true rfl⟩) ?_
      refine lv_if_eq (tgt := 52) hx hb dX1_smallest_30 (by decide) (fun c_30 => ?_) (fun c_30 => ?_)
      · refine lv_iinc (v := nI (k + 1)) (lv' := [(2, .int (nI (k + 1))), (0, .ref (q 0)), (1, .int x)]) hx hb dX1_smallest_52 hl (k := 2) rfl (inc1 _) (by decide) rfl (fun ls hl => ?_)
        refine lv_goto (tgt := 8) hx hb dX1_smallest_55 (by decide) ?_
        exact ih (n - 1) _ _ _ (by omega) ⟨(k + 1), x, by omega, by rw [fold_filt, ← ex, b2i_0.mp c_30]; exact rfl, hP, hS, lv_sub hl [1, 2, 0] rfl⟩
      · refine lv_iload_n hx hb dX1_smallest_33 rfl (lv_at hl 1 rfl) ?_
        refine lv_if_eq (tgt := 46) hx hb dX1_smallest_34 (by decide) (fun c_34 => ?_) (fun c_34 => ?_)
        · refine lv_aload_n hx hb dX1_smallest_46 rfl (lv_at hl 0 rfl) ?_
          refine lv_iload_n hx hb dX1_smallest_47 rfl (lv_at hl 2 rfl) ?_
          refine g_callR (W.runV (As := [.int (nI k)]) (rest := []) ⟨hx, hb, hml, hown, hts⟩ (mX1_size l D q d lt pm ab1 dm c (nI k)) (cwV 1 hts (lw_V q233 q235 qs13 q27 q236) rfl rfl rfl (by decide +kernel) ⟨Nat.le_of_ble_eq_true rfl, Nat.le_of_ble_eq_true rfl⟩) (m_preV _ hK hP) rfl rfl hl.1 rfl (lv_room (Nat.le_of_ble_eq_true rfl)) dX1_smallest_48 ⟨Nat.le_of_ble_eq_true rfl, Nat.le_of_ble_eq_true rfl⟩) ?_
          refine g_tw (y := onesF (nI k) 9) (ones9 (by omega)) ?_
          refine lv_istore_n (lv' := [(1, .int (onesF (nI k) 9)), (0, .ref (q 0)), (2, .int (nI k))]) hx hb dX1_smallest_51 rfl hl (by decide) rfl (fun ls hl => ?_)
          refine lv_iinc (v := nI (k + 1)) (lv' := [(2, .int (nI (k + 1))), (1, .int (onesF (nI k) 9)), (0, .ref (q 0))]) hx hb dX1_smallest_52 hl (k := 2) rfl (inc1 _) (by decide) rfl (fun ls hl => ?_)
          refine lv_goto (tgt := 8) hx hb dX1_smallest_55 (by decide) ?_
          exact ih (n - 1) _ _ _ (by omega) ⟨(k + 1), onesF (nI k) 9, by omega, by rw [fold_filt, ← ex, b2i_nz c_30, if_pos rfl]; exact (if_pos (Or.inl c_34)).symm, hP, hS, lv_sub hl [2, 1, 0] rfl⟩
        · refine lv_aload_n hx hb dX1_smallest_37 rfl (lv_at hl 0 rfl) ?_
          refine lv_iload_n hx hb dX1_smallest_38 rfl (lv_at hl 2 rfl) ?_
          refine g_callR (W.runV (As := [.int (nI k)]) (rest := []) ⟨hx, hb, hml, hown, hts⟩ (mX1_size l D q d lt pm ab1 dm c (nI k)) (cwV 1 hts (lw_V q233 q235 qs13 q27 q236) rfl rfl rfl (by decide +kernel) ⟨Nat.le_of_ble_eq_true rfl, Nat.le_of_ble_eq_true rfl⟩) (m_preV _ hK hP) rfl rfl hl.1 rfl (lv_room (Nat.le_of_ble_eq_true rfl)) dX1_smallest_39 ⟨Nat.le_of_ble_eq_true rfl, Nat.le_of_ble_eq_true rfl⟩) ?_
          refine g_tw (y := onesF (nI k) 9) (ones9 (by omega)) ?_
          refine lv_iload_n hx hb dX1_smallest_42 rfl (lv_at hl 1 rfl) ?_
          refine lv_icmp_ge (tgt := 52) hx hb dX1_smallest_43 (by decide) (fun c_43 => ?_) (fun c_43 => ?_)
          · refine lv_iinc (v := nI (k + 1)) (lv' := [(2, .int (nI (k + 1))), (0, .ref (q 0)), (1, .int x)]) hx hb dX1_smallest_52 hl (k := 2) rfl (inc1 _) (by decide) rfl (fun ls hl => ?_)
            refine lv_goto (tgt := 8) hx hb dX1_smallest_55 (by decide) ?_
            exact ih (n - 1) _ _ _ (by omega) ⟨(k + 1), x, by omega, by rw [fold_filt, ← ex, b2i_nz c_30, if_pos rfl]; exact (if_neg (fun q => q.elim c_34 (Int32.not_lt.mpr c_43))).symm, hP, hS, lv_sub hl [1, 2, 0] rfl⟩
          · refine lv_aload_n hx hb dX1_smallest_46 rfl (lv_at hl 0 rfl) ?_
            refine lv_iload_n hx hb dX1_smallest_47 rfl (lv_at hl 2 rfl) ?_
            refine g_callR (W.runV (As := [.int (nI k)]) (rest := []) ⟨hx, hb, hml, hown, hts⟩ (mX1_size l D q d lt pm ab1 dm c (nI k)) (cwV 1 hts (lw_V q233 q235 qs13 q27 q236) rfl rfl rfl (by decide +kernel) ⟨Nat.le_of_ble_eq_true rfl, Nat.le_of_ble_eq_true rfl⟩) (m_preV _ hK hP) rfl rfl hl.1 rfl (lv_room (Nat.le_of_ble_eq_true rfl)) dX1_smallest_48 ⟨Nat.le_of_ble_eq_true rfl, Nat.le_of_ble_eq_true rfl⟩) ?_
            refine g_tw (y := onesF (nI k) 9) (ones9 (by omega)) ?_
            refine lv_istore_n (lv' := [(1, .int (onesF (nI k) 9)), (0, .ref (q 0)), (2, .int (nI k))]) hx hb dX1_smallest_51 rfl hl (by decide) rfl (fun ls hl => ?_)
            refine lv_iinc (v := nI (k + 1)) (lv' := [(2, .int (nI (k + 1))), (1, .int (onesF (nI k) 9)), (0, .ref (q 0))]) hx hb dX1_smallest_52 hl (k := 2) rfl (inc1 _) (by decide) rfl (fun ls hl => ?_)
            refine lv_goto (tgt := 8) hx hb dX1_smallest_55 (by decide) ?_
            exact ih (n - 1) _ _ _ (by omega) ⟨(k + 1), onesF (nI k) 9, by omega, by rw [fold_filt, ← ex, b2i_nz c_30, if_pos rfl]; exact (if_pos (Or.inr (Int32.not_le.mp c_43))).symm, hP, hS, lv_sub hl [2, 1, 0] rfl⟩

set_option maxHeartbeats 4000000 in
theorem mX1_blame (l : Launch) (D : va_G) (q : Nat → Nat) (d : Nat → ClassId) (lt : Nat → Int32) (pm : Nat → Int32) (ab : Nat → Int32) (dm : Int32) (c : Nat) (p0 : Int32) (hq : gJ 4 q) (hc9 : c ≤ 9) : Met l yX1_blame (ws_ yX1_blame cX1_blame 4 (some .int)) ({ frames := 4, cells := 0, slots := 0, locals := 90 } : Room) (gPc D (mw q d lt pm ab dm (nI c)) (mt d) [.ref (q 0), .int p0]) (gQi D (mwS q d) (fun (r : Int32) (u : MS) => (isG p0 (nI c) = 0 ∧ r = -1 ∧ u = (lt, pm, ab, dm, nI c)) ∨ ¬ isG p0 (nI c) = 0 ∧ ∃ ab1 : Nat → Int32, u = (lt, pm, ab1, dm, nI c) ∧ r = (KL (okM lt c) c).foldl (stB p0) 0) (gA 4 q)) 0 0 (gA 4 q) := by
  refine g_met (by decide) (Nat.le_of_ble_eq_true rfl) ?_
  intro p e s m below meth cd hx hb hr hml hown hts hlocks hname hP hK ls hl
  have hown : s.vm.findClass RX1 = some m.cls := hown
  have hl : lv_has ls 4 [(0, .ref (q 0)), (1, .int p0)] := hl
  have hS : va_S (gA 4 q) s.heap s.heap [] := va_S.rf
  have h512 := pow9 hc9
  refine lv_aload_n hx hb dX1_blame_0 rfl (lv_at hl 0 rfl) ?_
  refine lv_iload_n hx hb dX1_blame_1 rfl (lv_at hl 1 rfl) ?_
  refine g_callR (W.runV (As := [.int p0]) (rest := []) ⟨hx, hb, hml, hown, hts⟩ (mX1_bad l D q d lt pm ab dm c p0 hc9) (cwV 1 hts (lw_V q249 q251 qs14 q27 q252) rfl rfl rfl (by decide +kernel) ⟨Nat.le_of_ble_eq_true rfl, Nat.le_of_ble_eq_true rfl⟩) (m_preV _ hK hP) rfl rfl hl.1 rfl (lv_room (Nat.le_of_ble_eq_true rfl)) dX1_blame_2 ⟨Nat.le_of_ble_eq_true rfl, Nat.le_of_ble_eq_true rfl⟩) ?_
  refine lv_if_eq (tgt := 10) hx hb dX1_blame_5 (by decide) (fun c_5 => ?_) (fun c_5 => ?_)
  · obtain ⟨j, hj, hp⟩ := isG_t hc9 ((isB_isG _ _).mp c_5)
    refine lv_aload_n hx hb dX1_blame_10 rfl (lv_at hl 0 rfl) ?_
    refine g_callv (va_runV (As := []) (rest := []) ⟨hx, hb, hml, hown, hts⟩ (mX1_work l D q d lt pm ab dm c hq hc9) (cwV 0 hts (lw_V q293 q295 qs20 q27 q296) rfl rfl rfl (by decide +kernel) ⟨Nat.le_of_ble_eq_true rfl, Nat.le_of_ble_eq_true rfl⟩) (m_preV _ hK hP) rfl rfl hl.1 rfl (lv_room (Nat.le_of_ble_eq_true rfl)) dX1_blame_11 ⟨Nat.le_of_ble_eq_true rfl, Nat.le_of_ble_eq_true rfl⟩) hS (fun u H locs hu hP hS => ?_)
    obtain ⟨ab1, rfl, hab⟩ := hu
    have hP : va_P D vwCl (mw q d lt pm ab1 dm (nI c)) H := hP
    refine lv_iconst (v := 0) hx hb dX1_blame_14 (by decide) ?_
    refine lv_istore_n (lv' := [(2, .int 0), (0, .ref (q 0)), (1, .int p0)]) hx hb dX1_blame_15 rfl hl (by decide) rfl (fun ls hl => ?_)
    refine lv_iconst (v := 0) hx hb dX1_blame_16 (by decide) ?_
    refine lv_istore_n (lv' := [(3, .int 0), (2, .int 0), (0, .ref (q 0)), (1, .int p0)]) hx hb dX1_blame_17 rfl hl (by decide) rfl (fun ls hl => ?_)
    refine g_loopH (pc := 18) (P := fun n H locs ls => ∃ (k : Nat) (x : Int32), (k + n = 2 ^ c) ∧ (x = ((List.range k).filter (isK (okM lt c) c)).foldl (stB p0) 0) ∧ va_P D vwCl (mw q d lt pm ab1 dm (nI c)) H ∧ va_S (gA 4 q) s.heap H locs ∧ lv_has ls 4 [(0, .ref (q 0)), (1, .int p0), (2, .int x), (3, .int (nI k))]) ?_ (2 ^ c) _ _ _ ⟨0, 0, Nat.zero_add _, rfl, hP, hS, lv_sub hl [2, 3, 1, 0] rfl⟩
    intro n H locs ls hh ih
    obtain ⟨k, x, hk, ex, hP, hS, hl⟩ := hh
    refine lv_iload_n hx hb dX1_blame_18 rfl (lv_at hl 3 rfl) ?_
    refine lv_iconst (v := 1) hx hb dX1_blame_19 (by decide) ?_
    refine lv_aload_n hx hb dX1_blame_20 rfl (lv_at hl 0 rfl) ?_
    refine va_get (D := D) (ci := 1) (v := .int (nI c)) (C := RX1) (T := TX1) (N := 5) hx hb hts in_X1 hown hK hP 0 rfl rfl 1 (by decide) (hts _ q213) (fun _ h9 => h9) rfl dX1_blame_21 ?_
    refine lv_ishl hx hb dX1_blame_24 ?_
    refine g_tw (y := nI (2 ^ c)) (shl1 c (by omega)) ?_
    refine lv_icmp_ge (tgt := 61) hx hb dX1_blame_25 (by decide) (fun c_25 => ?_) (fun c_25 => ?_)
    · have hkc : k = 2 ^ c := c_eq (by omega) (by omega) c_25
      refine lv_iload_n hx hb dX1_blame_61 rfl (lv_at hl 2 rfl) ?_
      exact g_reti (lt, pm, ab1, dm, nI c) hx hb hr hlocks hP hS (Or.inr ⟨(isB_isG _ _).mp c_5, ab1, rfl, by rw [ex, hkc]; rfl⟩) dX1_blame_62
    · have hlt : k < 2 ^ c := c_lt (by omega) (by omega) c_25
      refine lv_iload_n hx hb dX1_blame_28 rfl (lv_at hl 3 rfl) ?_
      refine lv_sipush (v := 512) hx hb dX1_blame_29 (by decide) ?_
      refine lv_icmp_ge (tgt := 61) hx hb dX1_blame_32 (by decide) (fun c_32 => ?_) (fun c_32 => ?_)
      · exact absurd c_32 (nI_ge (b := 512) (by omega) (by decide))
      · refine lv_iload_n hx hb dX1_blame_35 rfl (lv_at hl 3 rfl) ?_
        refine lv_iload_n hx hb dX1_blame_36 rfl (lv_at hl 1 rfl) ?_
        refine lv_ishr hx hb dX1_blame_37 ?_
        refine lv_iconst (v := 1) hx hb dX1_blame_38 (by decide) ?_
        refine lv_iand hx hb dX1_blame_39 ?_
        refine lv_iconst (v := 1) hx hb dX1_blame_40 (by decide) ?_
        refine lv_icmp_ne (tgt := 55) hx hb dX1_blame_41 (by decide) (fun c_41 => ?_) (fun c_41 => ?_)
        · have bitp : (nI k >>> (p0 &&& 31)) &&& 1 = 0 := by have h3 := c_41; rw [hp] at h3 ⊢; exact bit01 _ (by omega) h3
          refine lv_iinc (v := nI (k + 1)) (lv' := [(3, .int (nI (k + 1))), (0, .ref (q 0)), (1, .int p0), (2, .int x)]) hx hb dX1_blame_55 hl (k := 3) rfl (inc1 _) (by decide) rfl (fun ls hl => ?_)
          refine lv_goto (tgt := 18) hx hb dX1_blame_58 (by decide) ?_
          exact ih (n - 1) _ _ _ (by omega) ⟨(k + 1), x, by omega, by rw [fold_filt, ← ex]; unfold stB; rw [bitp, Int32.add_zero, ite_self], hP, hS, lv_sub hl [1, 2, 3, 0] rfl⟩
        · refine lv_aload_n hx hb dX1_blame_44 rfl (lv_at hl 0 rfl) ?_
          refine lv_iload_n hx hb dX1_blame_45 rfl (lv_at hl 3 rfl) ?_
          refine g_callR (W.runV (As := [.int (nI k)]) (rest := []) ⟨hx, hb, hml, hown, hts⟩ (mX1_isKernel l D q d lt pm ab1 dm c k hc9 (okM lt c) (by omega) hab) (cwV 1 hts (lw_V q297 q299 qs21 q27 q300) rfl rfl rfl (by decide +kernel) ⟨Nat.le_of_ble_eq_true rfl, Nat.le_of_ble_eq_true rfl⟩) (m_preV _ hK hP) rfl rfl hl.1 rfl (lv_room (Nat.le_of_ble_eq_true rfl)) dX1_blame_46 ⟨Nat.le_of_ble_eq_true rfl, Nat.le_of_ble_eq_true rfl⟩) ?_
          refine lv_if_eq (tgt := 55) hx hb dX1_blame_49 (by decide) (fun c_49 => ?_) (fun c_49 => ?_)
          · refine lv_iinc (v := nI (k + 1)) (lv' := [(3, .int (nI (k + 1))), (0, .ref (q 0)), (1, .int p0), (2, .int x)]) hx hb dX1_blame_55 hl (k := 3) rfl (inc1 _) (by decide) rfl (fun ls hl => ?_)
            refine lv_goto (tgt := 18) hx hb dX1_blame_58 (by decide) ?_
            exact ih (n - 1) _ _ _ (by omega) ⟨(k + 1), x, by omega, by rw [fold_filt, ← ex, b2i_0.mp c_49]; rfl, hP, hS, lv_sub hl [1, 2, 3, 0] rfl⟩
          · refine lv_iinc (v := (x + 1)) (lv' := [(2, .int (x + 1)), (0, .ref (q 0)), (1, .int p0), (3, .int (nI k))]) hx hb dX1_blame_52 hl (k := 2) rfl (rfl) (by decide) rfl (fun ls hl => ?_)
            refine lv_iinc (v := nI (k + 1)) (lv' := [(3, .int (nI (k + 1))), (2, .int (x + 1)), (0, .ref (q 0)), (1, .int p0)]) hx hb dX1_blame_55 hl (k := 3) rfl (inc1 _) (by decide) rfl (fun ls hl => ?_)
            refine lv_goto (tgt := 18) hx hb dX1_blame_58 (by decide) ?_
            exact ih (n - 1) _ _ _ (by omega) ⟨(k + 1), (x + 1), by omega, by rw [fold_filt, ← ex, b2i_nz c_49]; unfold stB; rw [c_41]; rfl, hP, hS, lv_sub hl [2, 3, 1, 0] rfl⟩
  · have c_5 : isG p0 (nI c) = 0 := Decidable.not_not.mp (fun z => c_5 ((isB_isG _ _).mpr z))
    refine lv_iconst (v := (-1)) hx hb dX1_blame_8 (by decide) ?_
    exact g_reti (lt, pm, ab, dm, nI c) hx hb hr hlocks hP hS (Or.inl ⟨c_5, rfl, rfl⟩) dX1_blame_9

set_option maxHeartbeats 4000000 in
theorem mX1_core (l : Launch) (D : va_G) (q : Nat → Nat) (d : Nat → ClassId) (lt : Nat → Int32) (pm : Nat → Int32) (ab : Nat → Int32) (dm : Int32) (c : Nat) (hq : gJ 4 q) (hc9 : c ≤ 9) : Met l yX1_core (ws_ yX1_core cX1_core 3 (some .int)) ({ frames := 4, cells := 0, slots := 0, locals := 90 } : Room) (gPc D (mw q d lt pm ab dm (nI c)) (mt d) [.ref (q 0)]) (gQi D (mwS q d) (fun (r : Int32) (u : MS) => ∃ ab1 : Nat → Int32, u = (lt, pm, ab1, dm, nI c) ∧ r = (KL (okM lt c) c).foldl stA (nI (2 ^ c - 1))) (gA 4 q)) 0 0 (gA 4 q) := by
  refine g_met (by decide) (Nat.le_of_ble_eq_true rfl) ?_
  intro p e s m below meth cd hx hb hr hml hown hts hlocks hname hP hK ls hl
  have hown : s.vm.findClass RX1 = some m.cls := hown
  have hl : lv_has ls 3 [(0, .ref (q 0))] := hl
  have hS : va_S (gA 4 q) s.heap s.heap [] := va_S.rf
  have h512 := pow9 hc9
  refine lv_aload_n hx hb dX1_core_0 rfl (lv_at hl 0 rfl) ?_
  refine g_callv (va_runV (As := []) (rest := []) ⟨hx, hb, hml, hown, hts⟩ (mX1_work l D q d lt pm ab dm c hq hc9) (cwV 0 hts (lw_V q293 q295 qs20 q27 q296) rfl rfl rfl (by decide +kernel) ⟨Nat.le_of_ble_eq_true rfl, Nat.le_of_ble_eq_true rfl⟩) (m_preV _ hK hP) rfl rfl hl.1 rfl (lv_room (Nat.le_of_ble_eq_true rfl)) dX1_core_1 ⟨Nat.le_of_ble_eq_true rfl, Nat.le_of_ble_eq_true rfl⟩) hS (fun u H locs hu hP hS => ?_)
  obtain ⟨ab1, rfl, hab⟩ := hu
  have hP : va_P D vwCl (mw q d lt pm ab1 dm (nI c)) H := hP
  refine lv_iconst (v := 1) hx hb dX1_core_4 (by decide) ?_
  refine lv_aload_n hx hb dX1_core_5 rfl (lv_at hl 0 rfl) ?_
  refine va_get (D := D) (ci := 1) (v := .int (nI c)) (C := RX1) (T := TX1) (N := 5) hx hb hts in_X1 hown hK hP 0 rfl rfl 1 (by decide) (hts _ q213) (fun _ h9 => h9) rfl dX1_core_6 ?_
  refine lv_ishl hx hb dX1_core_9 ?_
  refine lv_iconst (v := 1) hx hb dX1_core_10 (by decide) ?_
  refine lv_isub hx hb dX1_core_11 ?_
  refine g_tw (y := nI (2 ^ c - 1)) (all_I hc9) ?_
  refine lv_istore_n (lv' := [(1, .int (nI (2 ^ c - 1))), (0, .ref (q 0))]) hx hb dX1_core_12 rfl hl (by decide) rfl (fun ls hl => ?_)
  refine lv_iconst (v := 0) hx hb dX1_core_13 (by decide) ?_
  refine lv_istore_n (lv' := [(2, .int 0), (1, .int (nI (2 ^ c - 1))), (0, .ref (q 0))]) hx hb dX1_core_14 rfl hl (by decide) rfl (fun ls hl => ?_)
  refine g_loopH (pc := 15) (P := fun n H locs ls => ∃ (k : Nat) (x : Int32), (k + n = 2 ^ c) ∧ (x = ((List.range k).filter (isK (okM lt c) c)).foldl stA (nI (2 ^ c - 1))) ∧ va_P D vwCl (mw q d lt pm ab1 dm (nI c)) H ∧ va_S (gA 4 q) s.heap H locs ∧ lv_has ls 3 [(0, .ref (q 0)), (1, .int x), (2, .int (nI k))]) ?_ (2 ^ c) _ _ _ ⟨0, nI (2 ^ c - 1), Nat.zero_add _, rfl, hP, hS, lv_sub hl [2, 1, 0] rfl⟩
  intro n H locs ls hh ih
  obtain ⟨k, x, hk, ex, hP, hS, hl⟩ := hh
  refine lv_iload_n hx hb dX1_core_15 rfl (lv_at hl 2 rfl) ?_
  refine lv_iconst (v := 1) hx hb dX1_core_16 (by decide) ?_
  refine lv_aload_n hx hb dX1_core_17 rfl (lv_at hl 0 rfl) ?_
  refine va_get (D := D) (ci := 1) (v := .int (nI c)) (C := RX1) (T := TX1) (N := 5) hx hb hts in_X1 hown hK hP 0 rfl rfl 1 (by decide) (hts _ q213) (fun _ h9 => h9) rfl dX1_core_18 ?_
  refine lv_ishl hx hb dX1_core_21 ?_
  refine g_tw (y := nI (2 ^ c)) (shl1 c (by omega)) ?_
  refine lv_icmp_ge (tgt := 50) hx hb dX1_core_22 (by decide) (fun c_22 => ?_) (fun c_22 => ?_)
  · have hkc : k = 2 ^ c := c_eq (by omega) (by omega) c_22
    refine lv_iload_n hx hb dX1_core_50 rfl (lv_at hl 1 rfl) ?_
    exact g_reti (lt, pm, ab1, dm, nI c) hx hb hr hlocks hP hS (⟨ab1, rfl, by rw [ex, hkc]; rfl⟩) dX1_core_51
  · have hlt : k < 2 ^ c := c_lt (by omega) (by omega) c_22
    refine lv_iload_n hx hb dX1_core_25 rfl (lv_at hl 2 rfl) ?_
    refine lv_sipush (v := 512) hx hb dX1_core_26 (by decide) ?_
    refine lv_icmp_ge (tgt := 50) hx hb dX1_core_29 (by decide) (fun c_29 => ?_) (fun c_29 => ?_)
    · exact absurd c_29 (nI_ge (b := 512) (by omega) (by decide))
    · refine lv_aload_n hx hb dX1_core_32 rfl (lv_at hl 0 rfl) ?_
      refine lv_iload_n hx hb dX1_core_33 rfl (lv_at hl 2 rfl) ?_
      refine g_callR (W.runV (As := [.int (nI k)]) (rest := []) ⟨hx, hb, hml, hown, hts⟩ (mX1_isKernel l D q d lt pm ab1 dm c k hc9 (okM lt c) (by omega) hab) (cwV 1 hts (lw_V q297 q299 qs21 q27 q300) rfl rfl rfl (by decide +kernel) ⟨Nat.le_of_ble_eq_true rfl, Nat.le_of_ble_eq_true rfl⟩) (m_preV _ hK hP) rfl rfl hl.1 rfl (lv_room (Nat.le_of_ble_eq_true rfl)) dX1_core_34 ⟨Nat.le_of_ble_eq_true rfl, Nat.le_of_ble_eq_true rfl⟩) ?_
      refine lv_if_eq (tgt := 44) hx hb dX1_core_37 (by decide) (fun c_37 => ?_) (fun c_37 => ?_)
      · refine lv_iinc (v := nI (k + 1)) (lv' := [(2, .int (nI (k + 1))), (0, .ref (q 0)), (1, .int x)]) hx hb dX1_core_44 hl (k := 2) rfl (inc1 _) (by decide) rfl (fun ls hl => ?_)
        refine lv_goto (tgt := 15) hx hb dX1_core_47 (by decide) ?_
        exact ih (n - 1) _ _ _ (by omega) ⟨(k + 1), x, by omega, by rw [fold_filt, ← ex, b2i_0.mp c_37]; exact rfl, hP, hS, lv_sub hl [1, 2, 0] rfl⟩
      · refine lv_iload_n hx hb dX1_core_40 rfl (lv_at hl 1 rfl) ?_
        refine lv_iload_n hx hb dX1_core_41 rfl (lv_at hl 2 rfl) ?_
        refine lv_iand hx hb dX1_core_42 ?_
        refine lv_istore_n (lv' := [(1, .int (x &&& (nI k))), (0, .ref (q 0)), (2, .int (nI k))]) hx hb dX1_core_43 rfl hl (by decide) rfl (fun ls hl => ?_)
        refine lv_iinc (v := nI (k + 1)) (lv' := [(2, .int (nI (k + 1))), (1, .int (x &&& (nI k))), (0, .ref (q 0))]) hx hb dX1_core_44 hl (k := 2) rfl (inc1 _) (by decide) rfl (fun ls hl => ?_)
        refine lv_goto (tgt := 15) hx hb dX1_core_47 (by decide) ?_
        exact ih (n - 1) _ _ _ (by omega) ⟨(k + 1), (x &&& (nI k)), by omega, by rw [fold_filt, ← ex, b2i_nz c_37]; exact rfl, hP, hS, lv_sub hl [2, 1, 0] rfl⟩

set_option maxHeartbeats 4000000 in
theorem mX1_sort (l : Launch) (D : va_G) (q : Nat → Nat) (d : Nat → ClassId) (lt : Nat → Int32) (pm : Nat → Int32) (ab : Nat → Int32) (dm : Int32) (c : Nat) (p0 : Int32) (hq : gJ 4 q) (hc9 : c ≤ 9) : Met l yX1_sort (ws_ yX1_sort cX1_sort 2 (some .int)) ({ frames := 4, cells := 0, slots := 0, locals := 90 } : Room) (gPc D (mw q d lt pm ab dm (nI c)) (mt d) [.ref (q 0), .int p0]) (gQi D (mwS q d) (fun (r : Int32) (u : MS) => (isT p0 c = 0 ∧ r = -1 ∧ u = (lt, pm, ab, dm, nI c)) ∨ ¬ isT p0 c = 0 ∧ ∃ ab1 : Nat → Int32, u = (lt, pm, ab1, dm, nI c) ∧ r = (if isK (okM lt c) c p0.toNatClampNeg then 1 else if isC (okM lt c) c p0.toNatClampNeg then 2 else 0)) (gA 4 q)) 0 0 (gA 4 q) := by
  refine g_met (by decide) (Nat.le_of_ble_eq_true rfl) ?_
  intro p e s m below meth cd hx hb hr hml hown hts hlocks hname hP hK ls hl
  have hown : s.vm.findClass RX1 = some m.cls := hown
  have hl : lv_has ls 2 [(0, .ref (q 0)), (1, .int p0)] := hl
  have hS : va_S (gA 4 q) s.heap s.heap [] := va_S.rf
  have h512 := pow9 hc9
  refine lv_aload_n hx hb dX1_sort_0 rfl (lv_at hl 0 rfl) ?_
  refine lv_iload_n hx hb dX1_sort_1 rfl (lv_at hl 1 rfl) ?_
  refine g_callR (W.runV (As := [.int p0]) (rest := []) ⟨hx, hb, hml, hown, hts⟩ (mX1_badSet l D q d lt pm ab dm c p0) (cwV 1 hts (lw_V q265 q267 qs15 q27 q268) rfl rfl rfl (by decide +kernel) ⟨Nat.le_of_ble_eq_true rfl, Nat.le_of_ble_eq_true rfl⟩) (m_preV _ hK hP) rfl rfl hl.1 rfl (lv_room (Nat.le_of_ble_eq_true rfl)) dX1_sort_2 ⟨Nat.le_of_ble_eq_true rfl, Nat.le_of_ble_eq_true rfl⟩) ?_
  refine lv_if_eq (tgt := 10) hx hb dX1_sort_5 (by decide) (fun c_5 => ?_) (fun c_5 => ?_)
  · have c_5 : ¬ isT p0 c = 0 := (isU_isT _ _).mp c_5
    obtain ⟨t, ht, hp⟩ := isT_t hc9 c_5
    have hpt : p0.toNatClampNeg = t := by rw [hp]; exact nI_clamp (by omega)
    refine lv_aload_n hx hb dX1_sort_10 rfl (lv_at hl 0 rfl) ?_
    refine g_callv (va_runV (As := []) (rest := []) ⟨hx, hb, hml, hown, hts⟩ (mX1_work l D q d lt pm ab dm c hq hc9) (cwV 0 hts (lw_V q293 q295 qs20 q27 q296) rfl rfl rfl (by decide +kernel) ⟨Nat.le_of_ble_eq_true rfl, Nat.le_of_ble_eq_true rfl⟩) (m_preV _ hK hP) rfl rfl hl.1 rfl (lv_room (Nat.le_of_ble_eq_true rfl)) dX1_sort_11 ⟨Nat.le_of_ble_eq_true rfl, Nat.le_of_ble_eq_true rfl⟩) hS (fun u H locs hu hP hS => ?_)
    obtain ⟨ab1, rfl, hab⟩ := hu
    have hP : va_P D vwCl (mw q d lt pm ab1 dm (nI c)) H := hP
    refine lv_aload_n hx hb dX1_sort_14 rfl (lv_at hl 0 rfl) ?_
    refine lv_iload_n hx hb dX1_sort_15 rfl (lv_at hl 1 rfl) ?_
    refine g_tw (y := nI t) (hp) ?_
    refine g_callR (W.runV (As := [.int (nI t)]) (rest := []) ⟨hx, hb, hml, hown, hts⟩ (mX1_isKernel l D q d lt pm ab1 dm c t hc9 (okM lt c) ht hab) (cwV 1 hts (lw_V q297 q299 qs21 q27 q300) rfl rfl rfl (by decide +kernel) ⟨Nat.le_of_ble_eq_true rfl, Nat.le_of_ble_eq_true rfl⟩) (m_preV _ hK hP) rfl rfl hl.1 rfl (lv_room (Nat.le_of_ble_eq_true rfl)) dX1_sort_16 ⟨Nat.le_of_ble_eq_true rfl, Nat.le_of_ble_eq_true rfl⟩) ?_
    refine lv_if_eq (tgt := 24) hx hb dX1_sort_19 (by decide) (fun c_19 => ?_) (fun c_19 => ?_)
    · refine lv_aload_n hx hb dX1_sort_24 rfl (lv_at hl 0 rfl) ?_
      refine lv_iload_n hx hb dX1_sort_25 rfl (lv_at hl 1 rfl) ?_
      refine g_tw (y := nI t) (hp) ?_
      refine g_callR (W.runV (As := [.int (nI t)]) (rest := []) ⟨hx, hb, hml, hown, hts⟩ (mX1_isCorrection l D q d lt pm ab1 dm c t hc9 (okM lt c) ht hab) (cwV 1 hts (lw_V q301 q303 qs22 q27 q304) rfl rfl rfl (by decide +kernel) ⟨Nat.le_of_ble_eq_true rfl, Nat.le_of_ble_eq_true rfl⟩) (m_preV _ hK hP) rfl rfl hl.1 rfl (lv_room (Nat.le_of_ble_eq_true rfl)) dX1_sort_26 ⟨Nat.le_of_ble_eq_true rfl, Nat.le_of_ble_eq_true rfl⟩) ?_
      refine lv_if_eq (tgt := 36) hx hb dX1_sort_29 (by decide) (fun c_29 => ?_) (fun c_29 => ?_)
      · refine lv_iconst (v := 0) hx hb dX1_sort_36 (by decide) ?_
        exact g_reti (lt, pm, ab1, dm, nI c) hx hb hr hlocks hP hS (Or.inr ⟨c_5, ab1, rfl, by rw [hpt, b2i_0.mp c_19, b2i_0.mp c_29]; rfl⟩) dX1_sort_37
      · refine lv_iconst (v := 2) hx hb dX1_sort_32 (by decide) ?_
        refine lv_goto (tgt := 37) hx hb dX1_sort_33 (by decide) ?_
        exact g_reti (lt, pm, ab1, dm, nI c) hx hb hr hlocks hP hS (Or.inr ⟨c_5, ab1, rfl, by rw [hpt, b2i_0.mp c_19, b2i_nz c_29]; rfl⟩) dX1_sort_37
    · refine lv_iconst (v := 1) hx hb dX1_sort_22 (by decide) ?_
      exact g_reti (lt, pm, ab1, dm, nI c) hx hb hr hlocks hP hS (Or.inr ⟨c_5, ab1, rfl, by rw [hpt, b2i_nz c_19]; rfl⟩) dX1_sort_23
  · have c_5 : isT p0 c = 0 := Decidable.not_not.mp (fun z => c_5 ((isU_isT _ _).mpr z))
    refine lv_iconst (v := (-1)) hx hb dX1_sort_8 (by decide) ?_
    exact g_reti (lt, pm, ab, dm, nI c) hx hb hr hlocks hP hS (Or.inl ⟨c_5, rfl, rfl⟩) dX1_sort_9
end
section
/-! the two objects side by side, in plain numbers -/
set_option maxRecDepth 100000
theorem hol_iff {L : Int32} {x : Nat} : ∀ n b, hol L x n b = true ↔ ∃ v, b ≤ v ∧ v < b + n ∧ bt L (if x.testBit v then 2 * v else 2 * v + 1) = true
  | 0, b => ⟨fun h => (by rw [show hol L x 0 b = false from rfl] at h; cases h), fun ⟨v, h1, h2, _⟩ => by omega⟩
  | n + 1, b => by
    have ih := hol_iff (L := L) (x := x) n (b + 1)
    cases e : bt L (if x.testBit b then 2 * b else 2 * b + 1)
    · rw [hol_f (by omega) e]
      show hol L x n (b + 1) = true ↔ _
      rw [ih]
      constructor
      · rintro ⟨v, h1, h2, h3⟩; exact ⟨v, by omega, by omega, h3⟩
      · rintro ⟨v, h1, h2, h3⟩
        rcases Nat.eq_or_lt_of_le h1 with z | z
        · subst z; rw [e] at h3; cases h3
        · exact ⟨v, z, by omega, h3⟩
    · rw [hol_t (by omega) e]
      exact ⟨fun _ => ⟨b, Nat.le_refl b, by omega, e⟩, fun _ => rfl⟩
theorem alh_iff {lt : Nat → Int32} {p : Int32} {x : Nat} : ∀ n k, alh lt p x n k = true ↔ ∀ j, k ≤ j → j < k + n → bt p j = true → holB (lt j) x = true
  | 0, k => ⟨fun _ j h1 h2 => by omega, fun _ => rfl⟩
  | n + 1, k => by
    have ih := alh_iff (lt := lt) (p := p) (x := x) n (k + 1)
    by_cases e : bt p k = true ∧ holB (lt k) x = false
    · rw [alh_t (by omega) e.1 e.2]
      refine ⟨fun h => (by cases h), fun h => ?_⟩
      have h1 := h k (Nat.le_refl k) (by omega) e.1
      rw [e.2] at h1
      exact h1
    · have e2 : bt p k = false ∨ holB (lt k) x = true := by
        cases a : bt p k
        · exact Or.inl rfl
        · refine Or.inr ?_
          cases a2 : holB (lt k) x
          · exact absurd ⟨a, a2⟩ e
          · rfl
      rw [alh_f (by omega) e2]
      show alh lt p x n (k + 1) = true ↔ _
      rw [ih]
      constructor
      · intro h j h1 h2 hj
        rcases Nat.eq_or_lt_of_le h1 with z | z
        · subst z
          rcases e2 with r | r
          · rw [r] at hj; cases hj
          · exact r
        · exact h j z (by omega) hj
      · intro h j h1 h2 hj
        exact h j (by omega) (by omega) hj
/-- the words say what the literals say -/
def WOK (w lt : Nat → Int32) (c : Nat) : Prop := ∀ j, j < c → ∀ v, v < 32 → bt (w j) v = holB (lt j) v
theorem com_alh {w lt : Nat → Int32} {c : Nat} (hc : c ≤ 9) (h : WOK w lt c) (p : Int32) {v : Nat} (hv : v < 32) : bt (comF w p c) v = alh lt p v c 0 := by
  have h1 := comF_bit w p hv c (by omega)
  have h2 := alh_iff (lt := lt) (p := p) (x := v) c 0
  apply Bool.eq_iff_iff.mpr
  rw [h1, h2]
  exact ⟨fun q j _ hj hb => by rw [← h j (by omega) v hv]; exact q j (by omega) hb, fun q j hj hb => by rw [h j hj v hv]; exact q j (Nat.zero_le j) (by omega) hb⟩
theorem fnd_congr {P Q : Nat → Bool} : ∀ n k, (∀ i, k ≤ i → i < k + n → P i = Q i) → fnd P n k = fnd Q n k
  | 0, k, _ => rfl
  | n + 1, k, h => by
    show (if P k then nI k else fnd P n (k + 1)) = if Q k then nI k else fnd Q n (k + 1)
    rw [h k (Nat.le_refl k) (by omega), fnd_congr n (k + 1) (fun i h1 h2 => h i (by omega) (by omega))]
theorem fnd_neg {P : Nat → Bool} : ∀ n k, k + n ≤ 32 → (fnd P n k < 0 ↔ ∀ i, k ≤ i → i < k + n → P i = false)
  | 0, k, _ => ⟨fun _ i h1 h2 => by omega, fun _ => show (-2 : Int32) < 0 by decide⟩
  | n + 1, k, hk => by
    have ih := fnd_neg (P := P) n (k + 1) (by omega)
    cases e : P k
    · rw [fnd_f (by omega) e]
      show fnd P n (k + 1) < 0 ↔ _
      rw [ih]
      constructor
      · intro h i h1 h2
        rcases Nat.eq_or_lt_of_le h1 with z | z
        · subst z; exact e
        · exact h i z (by omega)
      · exact fun h i h1 h2 => h i (by omega) (by omega)
    · rw [fnd_t (by omega) e]
      refine ⟨fun h => absurd h (nI_pos (by omega)), fun h => ?_⟩
      have h1 := h k (Nat.le_refl k) (by omega)
      rw [e] at h1
      cases h1
theorem fnd_both {w lt : Nat → Int32} {c : Nat} (hc : c ≤ 9) (h : WOK w lt c) (p : Int32) : fnd (fun v => bt (comF w p c) v) 32 0 = fnd (fun v => alh lt p v c 0) 32 0 := fnd_congr 32 0 (fun i _ hi => com_alh hc h p (by omega))
theorem com_zero {w lt : Nat → Int32} {c : Nat} (hc : c ≤ 9) (h : WOK w lt c) (p : Int32) : comF w p c = 0 ↔ fnd (fun v => alh lt p v c 0) 32 0 < 0 := by
  rw [← fnd_both hc h p, fnd_neg 32 0 (by omega)]
  constructor
  · intro e i _ _
    show bt (comF w p c) i = false
    rw [e]
    exact b_0 i
  · intro q
    apply b_ext
    intro i hi
    rw [b_0]
    exact q i (Nat.zero_le i) (by omega)
theorem ok_both {w lt : Nat → Int32} {c : Nat} (hc : c ≤ 9) (h : WOK w lt c) : okM lt c = okB w c := by
  funext t
  unfold okM okB
  exact decide_eq_decide.mpr (not_congr (com_zero hc h (nI t)).symm)
theorem pri_both {pr pm : Nat → Int32} (x : Int32) : ∀ c, (∀ j, j < c → pr j = pm j) → priF pr x c = priF pm x c
  | 0, _ => rfl
  | c + 1, h => by
    show priF pr x c + (if sb x c = 1 then pr c else 0) = priF pm x c + (if sb x c = 1 then pm c else 0)
    rw [pri_both x c (fun j hj => h j (by omega)), h c (by omega)]
theorem sum_both {f g : Nat → Int32} : ∀ c, (∀ j, j < c → f j = g j) → sumF f c = sumF g c
  | 0, _ => rfl
  | c + 1, h => by
    show sumF f c + f c = sumF g c + g c
    rw [sum_both c (fun j hj => h j (by omega)), h c (by omega)]
theorem isG_y {j c : Nat} (hj : j < c) (hc : c ≤ 9) : ¬ isG (nI j) (nI c) = 0 := by
  unfold isG
  rw [if_neg (nI_pos (by omega)), if_neg (nI_ge hj (by omega))]
  decide
/-- the drafts: a list of nd literals, the same as bits -/
def DOK (dr : Nat → Int32) (nd b : Nat) : Prop := nd ≤ 4 ∧ b < 1024 ∧ onesF (nI b) 10 = nI nd ∧ (∀ k, k < nd → ∃ i, i ≤ 9 ∧ dr k = nI i ∧ b.testBit i = true) ∧ ∀ i, b.testBit i = true → ∃ k, k < nd ∧ dr k = nI i
theorem DOK_0 (dr : Nat → Int32) : DOK dr 0 0 := ⟨by decide, by decide, by decide +kernel, fun k h => by omega, fun i h => by rw [Nat.zero_testBit] at h; cases h⟩
theorem ones_or {b j : Nat} (h : b.testBit j = false) : ∀ k, k ≤ 10 → onesF (nI (b ||| 2 ^ j)) k = onesF (nI b) k + (if j < k then 1 else 0)
  | 0, _ => by rw [if_neg (Nat.not_lt_zero j), Int32.add_zero]; rfl
  | k + 1, hk => by
    have ih := ones_or h k (by omega)
    show onesF (nI (b ||| 2 ^ j)) k + sb (nI (b ||| 2 ^ j)) k = onesF (nI b) k + sb (nI b) k + _
    rw [ih, sb_eq _ (by omega), sb_eq _ (by omega), bt_nI _ (by omega), bt_nI _ (by omega), Nat.testBit_or, p2_bit]
    rcases Nat.lt_trichotomy j k with z | z | z
    · rw [if_pos z, if_pos (by omega), decide_eq_false (by omega), Bool.or_false, Int32.add_assoc, Int32.add_comm 1, ← Int32.add_assoc]
    · subst z
      rw [if_neg (by omega), if_pos (by omega), h, decide_eq_true rfl, Int32.add_zero]
      show onesF (nI b) j + 1 = onesF (nI b) j + 0 + 1
      rw [Int32.add_zero]
    · rw [if_neg (by omega), if_neg (by omega), decide_eq_false (by omega), Bool.or_false, Int32.add_zero, Int32.add_zero]
theorem or_old {b j : Nat} (h : b.testBit j = true) : b ||| 2 ^ j = b := by
  apply Nat.eq_of_testBit_eq
  intro i
  rw [Nat.testBit_or, p2_bit]
  by_cases e : j = i
  · subst e; rw [h]; rfl
  · rw [decide_eq_false e, Bool.or_false]
theorem ones_new {b j nd : Nat} (hj : j ≤ 9) (h : b.testBit j = false) (e : onesF (nI b) 10 = nI nd) : onesF (nI (b ||| 2 ^ j)) 10 = nI (nd + 1) := by
  rw [ones_or h 10 (by omega), if_pos (by omega), e]
  exact nI_1 nd
theorem DOK_new {dr : Nat → Int32} {nd b j : Nat} (hd : DOK dr nd b) (hj : j ≤ 9) (hn : nd < 4) (h : b.testBit j = false) : DOK (upd dr nd (nI j)) (nd + 1) (b ||| 2 ^ j) := by
  obtain ⟨h1, h2, h3, h4, h5⟩ := hd
  refine ⟨by omega, or_bit_lt (c := 10) h2 (by omega), ones_new hj h h3, fun k hk => ?_, fun i hi => ?_⟩
  · by_cases e : k = nd
    · exact ⟨j, hj, by rw [e, pk_us], by rw [Nat.testBit_or, p2_bit, decide_eq_true rfl, Bool.or_true]⟩
    · obtain ⟨i, a1, a2, a3⟩ := h4 k (by omega)
      exact ⟨i, a1, by rw [pk_un e]; exact a2, by rw [Nat.testBit_or, a3]; rfl⟩
  · rw [Nat.testBit_or, p2_bit] at hi
    by_cases e : j = i
    · subst e; exact ⟨nd, by omega, pk_us⟩
    · rw [decide_eq_false e, Bool.or_false] at hi
      obtain ⟨k, a1, a2⟩ := h5 i hi
      exact ⟨k, by omega, by rw [pk_un (by omega)]; exact a2⟩
theorem DOK_bit {dr : Nat → Int32} {nd b j : Nat} (hd : DOK dr nd b) (hj : j ≤ 9) : b.testBit j = true ↔ ∃ k, k < nd ∧ dr k = nI j := by
  refine ⟨hd.2.2.2.2 j, ?_⟩
  rintro ⟨k, hk, e⟩
  obtain ⟨i, a1, a2, a3⟩ := hd.2.2.2.1 k hk
  rw [a2, nI_eq (by omega) (by omega)] at e
  rw [← e]
  exact a3
theorem DOK_z {dr : Nat → Int32} {nd b : Nat} (hd : DOK dr nd b) : nd = 0 ↔ b = 0 := by
  constructor
  · intro e
    apply Nat.eq_of_testBit_eq
    intro i
    rw [Nat.zero_testBit]
    cases a : b.testBit i
    · rfl
    · obtain ⟨k, hk, _⟩ := hd.2.2.2.2 i a
      omega
  · intro e
    rcases Nat.eq_zero_or_pos nd with z | z
    · exact z
    · obtain ⟨i, _, _, a3⟩ := hd.2.2.2.1 0 z
      rw [e, Nat.zero_testBit] at a3
      cases a3
theorem orF_bit {f : Nat → Int32} {v : Nat} : ∀ n, bt (orF f n) v = true ↔ ∃ k, k < n ∧ bt (f k) v = true
  | 0 => ⟨fun h => (by rw [show orF f 0 = 0 from rfl, b_0] at h; cases h), fun ⟨k, h, _⟩ => by omega⟩
  | n + 1 => by
    show bt (orF f n ||| f n) v = true ↔ _
    rw [b_or, Bool.or_eq_true, orF_bit n]
    constructor
    · rintro (⟨k, h1, h2⟩ | h)
      · exact ⟨k, by omega, h2⟩
      · exact ⟨n, by omega, h⟩
    · rintro ⟨k, h1, h2⟩
      by_cases e : k = n
      · subst e; exact Or.inr h2
      · exact Or.inl ⟨k, by omega, h2⟩
theorem wrd_bit : ∀ i, i < 10 → ∀ v, v < 32 → bt (wrdF (nI i) 32) v = (v.testBit (i / 2) ^^ decide (i % 2 = 1)) := by decide +kernel
theorem or_hol {dr : Nat → Int32} {nd b v : Nat} (hd : DOK dr nd b) (hv : v < 32) : bt (orF (fun k => wrdF (dr k) 32) nd) v = holB (nI b) v := by
  apply Bool.eq_iff_iff.mpr
  rw [orF_bit, hol_iff]
  constructor
  · rintro ⟨k, hk, h⟩
    obtain ⟨i, a1, a2, a3⟩ := hd.2.2.2.1 k hk
    simp only [a2] at h
    rw [wrd_bit i (by omega) v hv] at h
    refine ⟨i / 2, Nat.zero_le _, by omega, ?_⟩
    have e : (if v.testBit (i / 2) then 2 * (i / 2) else 2 * (i / 2) + 1) = i := by
      cases t : v.testBit (i / 2)
      · rw [t, Bool.false_xor, decide_eq_true_eq] at h
        rw [if_neg (by decide)]; omega
      · rw [t, Bool.true_xor, Bool.not_eq_true', decide_eq_false_iff_not] at h
        rw [if_pos rfl]; omega
    rw [e, bt_nI _ (by omega)]
    exact a3
  · rintro ⟨u, _, hu, h⟩
    have key : ∀ i, i < 10 → i / 2 = u → (v.testBit u ^^ decide (i % 2 = 1)) = true → bt (nI b) i = true → ∃ k, k < nd ∧ bt (wrdF (dr k) 32) v = true := by
      intro i hi e1 e2 e3
      rw [bt_nI _ (by omega)] at e3
      obtain ⟨k, hk, a⟩ := hd.2.2.2.2 i e3
      refine ⟨k, hk, ?_⟩
      rw [a, wrd_bit i hi v hv, e1]
      exact e2
    cases t : v.testBit u
    · rw [t, if_neg (by decide)] at h
      exact key (2 * u + 1) (by omega) (by omega) (by rw [t, decide_eq_true (by omega)]; rfl) h
    · rw [t, if_pos rfl] at h
      exact key (2 * u) (by omega) (by omega) (by rw [t, decide_eq_false (by omega)]; rfl) h
theorem WOK_add {w lt : Nat → Int32} {c : Nat} {x z : Int32} (h : WOK w lt c) (hx : ∀ v, v < 32 → bt x v = holB z v) : WOK (upd w c x) (upd lt c z) (c + 1) := by
  intro j hj v hv
  by_cases e : j = c
  · subst e; rw [pk_us, pk_us]; exact hx v hv
  · rw [pk_un e, pk_un e]; exact h j (by omega) v hv
theorem WOK_shf {w lt : Nat → Int32} {c j : Nat} (h : WOK w lt c) : WOK (shf w j (c - 1)) (shf lt j (c - 1)) (c - 1) := by
  intro i hi v hv
  unfold shf
  by_cases e : j ≤ i ∧ i < c - 1
  · rw [if_pos e, if_pos e]; exact h (i + 1) (by omega) v hv
  · rw [if_neg e, if_neg e]; exact h i (by omega) v hv
theorem pr_shf {pr pm : Nat → Int32} {c j : Nat} (h : ∀ i, i < c → pr i = pm i) : ∀ i, i < c - 1 → shf pr j (c - 1) i = shf pm j (c - 1) i := by
  intro i hi
  unfold shf
  by_cases e : j ≤ i ∧ i < c - 1
  · rw [if_pos e, if_pos e]; exact h (i + 1) (by omega)
  · rw [if_neg e, if_neg e]; exact h i (by omega)
theorem pr_upd {pr pm : Nat → Int32} {c j : Nat} {x : Int32} (h : ∀ i, i < c → pr i = pm i) : ∀ i, i < c → upd pr j x i = upd pm j x i := by
  intro i hi
  by_cases e : i = j
  · subst e; rw [pk_us, pk_us]
  · rw [pk_un e, pk_un e]; exact h i hi
theorem pr_add {pr pm : Nat → Int32} {c : Nat} {x : Int32} (h : ∀ i, i < c → pr i = pm i) : ∀ i, i < c + 1 → upd pr c x i = upd pm c x i := by
  intro i hi
  by_cases e : i = c
  · subst e; rw [pk_us, pk_us]
  · rw [pk_un e, pk_un e]; exact h i (by omega)
/-- the two objects agree -/
def RelP (w pr dr kl fl : Nat → Int32) (c nd : Nat) (kc fc sv : Int32) (lt pm : Nat → Int32) (b : Nat) : Prop := c ≤ 9 ∧ DOK dr nd b ∧ WOK w lt c ∧ (∀ j, j < c → pr j = pm j) ∧ (sv = 0 ∨ (sv = 1 ∧ ∃ y z, kc = nI y ∧ fc = nI z ∧ XSol w c kl fl y z))
def Rel (x : XS) (y : MS) : Prop := ∃ (w pr dr kl fl wt : Nat → Int32) (c nd : Nat) (kc fc sv : Int32) (lt pm ab : Nat → Int32) (b : Nat), x = (w, pr, dr, kl, fl, wt, nI c, nI nd, kc, fc, sv) ∧ y = (lt, pm, ab, nI b, nI c) ∧ RelP w pr dr kl fl c nd kc fc sv lt pm b
theorem relI {w pr dr kl fl wt : Nat → Int32} {c nd : Nat} {kc fc sv : Int32} {lt pm ab : Nat → Int32} {b : Nat} (h : RelP w pr dr kl fl c nd kc fc sv lt pm b) : Rel (w, pr, dr, kl, fl, wt, nI c, nI nd, kc, fc, sv) (lt, pm, ab, nI b, nI c) := ⟨w, pr, dr, kl, fl, wt, c, nd, kc, fc, sv, lt, pm, ab, b, rfl, rfl, h⟩
theorem rel0 {w pr dr kl fl wt : Nat → Int32} {c : Nat} {kc fc sv : Int32} {lt pm ab : Nat → Int32} (h : RelP w pr dr kl fl c 0 kc fc sv lt pm 0) : Rel (w, pr, dr, kl, fl, wt, nI c, 0, kc, fc, sv) (lt, pm, ab, 0, nI c) := ⟨w, pr, dr, kl, fl, wt, c, 0, kc, fc, sv, lt, pm, ab, 0, by rw [nI_0], by rw [nI_0], h⟩
end
section
/-! each call of the law in plain numbers: both answer alike, and agree behind it. Statements printed by gen/m_e.py out of the contracts -/
set_option maxRecDepth 100000

theorem pl_literal {w pr dr kl fl wt : Nat → Int32} {c nd : Nat} {kc fc sv : Int32} {lt pm ab : Nat → Int32} {b : Nat} {p0 : Int32} {r r' : Int32} {u : XS} {u' : MS} (hR : RelP w pr dr kl fl c nd kc fc sv lt pm b) (h1 : (p0 < 0 ∨ ¬ p0 ≤ 9) ∧ r = -1 ∧ u = (w, pr, dr, kl, fl, wt, nI c, nI nd, kc, fc, sv) ∨ (¬ p0 < 0 ∧ p0 ≤ 9) ∧ ((∃ k, k < nd ∧ dr k = p0) ∧ r = nI nd ∧ u = (w, pr, dr, kl, fl, wt, nI c, nI nd, kc, fc, sv) ∨ (∀ k, k < nd → ¬ dr k = p0) ∧ (nd = 4 ∧ r = -2 ∧ u = (w, pr, dr, kl, fl, wt, nI c, nI nd, kc, fc, sv) ∨ nd < 4 ∧ r = nI (nd + 1) ∧ u = (w, pr, upd dr nd p0, kl, fl, wt, nI c, nI (nd + 1), kc, fc, sv)))) (h2 : (p0 < 0 ∨ ¬ p0 ≤ 9) ∧ r' = -1 ∧ u' = (lt, pm, ab, nI b, nI c) ∨ ∃ j, j ≤ 9 ∧ p0 = nI j ∧ (¬ onesF (nI (b ||| 2 ^ j)) 10 ≤ 4 ∧ r' = -2 ∧ u' = (lt, pm, ab, nI b, nI c) ∨ onesF (nI (b ||| 2 ^ j)) 10 ≤ 4 ∧ r' = onesF (nI (b ||| 2 ^ j)) 10 ∧ u' = (lt, pm, ab, nI (b ||| 2 ^ j), nI c))) : r = r' ∧ Rel u u' := by
  obtain ⟨hc, hd, hw, hp, hs⟩ := hR
  rcases h1 with ⟨a1, rfl, rfl⟩ | ⟨⟨a1, a2⟩, h1⟩
  · rcases h2 with ⟨_, rfl, rfl⟩ | ⟨j, hj, rfl, h2⟩
    · exact ⟨rfl, relI ⟨hc, hd, hw, hp, hs⟩⟩
    · rcases a1 with a1 | a1
      · exact absurd a1 (nI_pos (by omega))
      · exact absurd (nI_le (b := 9) hj (by decide)) a1
  · rcases h2 with ⟨z, _⟩ | ⟨j, hj, rfl, h2⟩
    · rcases z with z | z
      · exact absurd z a1
      · exact absurd a2 z
    · rcases h1 with ⟨hk, rfl, rfl⟩ | ⟨hk, h1⟩
      · have hb := (DOK_bit hd hj).mpr hk
        rw [or_old hb, hd.2.2.1] at h2
        have hnd := hd.1
        rcases h2 with ⟨z, _⟩ | ⟨_, rfl, rfl⟩
        · exact absurd (nI_le (b := 4) hnd (by decide)) z
        · exact ⟨rfl, relI ⟨hc, hd, hw, hp, hs⟩⟩
      · have hb : b.testBit j = false := by
          cases e : b.testBit j
          · rfl
          · obtain ⟨k, k1, k2⟩ := (DOK_bit hd hj).mp e
            exact absurd k2 (hk k k1)
        rw [ones_new hj hb hd.2.2.1] at h2
        rcases h1 with ⟨h4, rfl, rfl⟩ | ⟨h4, rfl, rfl⟩
        · rcases h2 with ⟨_, rfl, rfl⟩ | ⟨z, _⟩
          · exact ⟨rfl, relI ⟨hc, hd, hw, hp, hs⟩⟩
          · exact absurd z (nI_ge (b := nd + 1) (a := 4) (by omega) (by omega))
        · rcases h2 with ⟨z, _⟩ | ⟨_, rfl, rfl⟩
          · exact absurd (nI_le (b := 4) (a := nd + 1) (by omega) (by decide)) z
          · exact ⟨rfl, relI ⟨hc, DOK_new hd hj h4 hb, hw, hp, hs⟩⟩
theorem pl_add {w pr dr kl fl wt : Nat → Int32} {c nd : Nat} {kc fc sv : Int32} {lt pm ab : Nat → Int32} {b : Nat}  {r r' : Int32} {u : XS} {u' : MS} (hR : RelP w pr dr kl fl c nd kc fc sv lt pm b) (h1 : nd = 0 ∧ r = -1 ∧ u = (w, pr, dr, kl, fl, wt, nI c, nI nd, kc, fc, sv) ∨ 0 < nd ∧ (c = 9 ∧ r = -2 ∧ u = (w, pr, dr, kl, fl, wt, nI c, nI nd, kc, fc, sv) ∨ c < 9 ∧ r = nI c ∧ u = (upd w c (orF (fun k => wrdF (dr k) 32) nd), upd pr c 1, dr, kl, fl, wt, nI (c + 1), 0, kc, fc, 0))) (h2 : b = 0 ∧ r' = -1 ∧ u' = (lt, pm, ab, nI b, nI c) ∨ 0 < b ∧ (c = 9 ∧ r' = -2 ∧ u' = (lt, pm, ab, nI b, nI c) ∨ c < 9 ∧ r' = nI c ∧ u' = (upd lt c (nI b), upd pm c 1, ab, 0, nI (c + 1)))) : r = r' ∧ Rel u u' := by
  obtain ⟨hc, hd, hw, hp, hs⟩ := hR
  have hz := DOK_z hd
  rcases h1 with ⟨a1, rfl, rfl⟩ | ⟨a1, h1⟩
  · rcases h2 with ⟨_, rfl, rfl⟩ | ⟨z, _⟩
    · exact ⟨rfl, relI ⟨hc, hd, hw, hp, hs⟩⟩
    · exact absurd (hz.mp a1) (by omega)
  · rcases h2 with ⟨z, _⟩ | ⟨_, h2⟩
    · exact absurd (hz.mpr z) (by omega)
    · rcases h1 with ⟨h4, rfl, rfl⟩ | ⟨h4, rfl, rfl⟩
      · rcases h2 with ⟨_, rfl, rfl⟩ | ⟨z, _⟩
        · exact ⟨rfl, relI ⟨hc, hd, hw, hp, hs⟩⟩
        · omega
      · rcases h2 with ⟨z, _⟩ | ⟨_, rfl, rfl⟩
        · omega
        · exact ⟨rfl, rel0 ⟨by omega, DOK_0 dr, WOK_add hw (fun v hv => or_hol hd hv), pr_add hp, Or.inl rfl⟩⟩
theorem pl_clear {w pr dr kl fl wt : Nat → Int32} {c nd : Nat} {kc fc sv : Int32} {lt pm ab : Nat → Int32} {b : Nat}  {r r' : Int32} {u : XS} {u' : MS} (hR : RelP w pr dr kl fl c nd kc fc sv lt pm b) (h1 : r = (nI nd) ∧ u = (w, pr, dr, kl, fl, wt, nI c, 0, kc, fc, sv)) (h2 : r' = onesF (nI b) 10 ∧ u' = (lt, pm, ab, 0, nI c)) : r = r' ∧ Rel u u' := by
  obtain ⟨hc, hd, hw, hp, hs⟩ := hR
  obtain ⟨rfl, rfl⟩ := h1
  obtain ⟨rfl, rfl⟩ := h2
  exact ⟨hd.2.2.1.symm, rel0 ⟨hc, DOK_0 dr, hw, hp, hs⟩⟩
theorem pl_remove {w pr dr kl fl wt : Nat → Int32} {c nd : Nat} {kc fc sv : Int32} {lt pm ab : Nat → Int32} {b : Nat} {p0 : Int32} {r r' : Int32} {u : XS} {u' : MS} (hR : RelP w pr dr kl fl c nd kc fc sv lt pm b) (h1 : (isG p0 (nI c) = 0 ∧ r = -1 ∧ u = (w, pr, dr, kl, fl, wt, nI c, (nI nd), kc, fc, sv)) ∨ ∃ j, j < c ∧ p0 = nI j ∧ r = nI (c - 1) ∧ u = (shf w j (c - 1), shf pr j (c - 1), dr, kl, fl, wt, nI (c - 1), (nI nd), kc, fc, 0)) (h2 : (isG p0 (nI c) = 0 ∧ r' = -1 ∧ u' = (lt, pm, ab, (nI b), nI c)) ∨ ∃ j, j < c ∧ p0 = nI j ∧ r' = nI (c - 1) ∧ u' = (shf lt j (c - 1), shf pm j (c - 1), ab, (nI b), nI (c - 1))) : r = r' ∧ Rel u u' := by
  obtain ⟨hc, hd, hw, hp, hs⟩ := hR
  rcases h1 with ⟨a1, rfl, rfl⟩ | ⟨j, hj, rfl, rfl, rfl⟩
  · rcases h2 with ⟨_, rfl, rfl⟩ | ⟨j, hj, rfl, _⟩
    · exact ⟨rfl, relI ⟨hc, hd, hw, hp, hs⟩⟩
    · exact absurd a1 (isG_y hj hc)
  · rcases h2 with ⟨a1, _⟩ | ⟨k, hk, e, rfl, rfl⟩
    · exact absurd a1 (isG_y hj hc)
    · rw [nI_eq (by omega) (by omega)] at e
      subst e
      exact ⟨rfl, relI ⟨by omega, hd, WOK_shf hw, pr_shf hp, Or.inl rfl⟩⟩
theorem pl_price {w pr dr kl fl wt : Nat → Int32} {c nd : Nat} {kc fc sv : Int32} {lt pm ab : Nat → Int32} {b : Nat} {p0 : Int32} {p1 : Int32} {r r' : Int32} {u : XS} {u' : MS} (hR : RelP w pr dr kl fl c nd kc fc sv lt pm b) (h1 : (isG p0 (nI c) = 0 ∧ r = -1 ∧ u = (w, pr, dr, kl, fl, wt, nI c, (nI nd), kc, fc, sv)) ∨ ∃ j, j < c ∧ p0 = nI j ∧ ((p1 < 1 ∨ ¬ p1 ≤ 20) ∧ r = -2 ∧ u = (w, pr, dr, kl, fl, wt, nI c, (nI nd), kc, fc, sv) ∨ (¬ p1 < 1 ∧ p1 ≤ 20) ∧ r = pr j ∧ u = (w, upd pr j p1, dr, kl, fl, wt, nI c, (nI nd), kc, fc, sv))) (h2 : (isG p0 (nI c) = 0 ∧ r' = -1 ∧ u' = (lt, pm, ab, (nI b), nI c)) ∨ ∃ j, j < c ∧ p0 = nI j ∧ ((p1 < 1 ∨ ¬ p1 ≤ 20) ∧ r' = -2 ∧ u' = (lt, pm, ab, (nI b), nI c) ∨ (¬ p1 < 1 ∧ p1 ≤ 20) ∧ r' = pm j ∧ u' = (lt, upd pm j p1, ab, (nI b), nI c))) : r = r' ∧ Rel u u' := by
  obtain ⟨hc, hd, hw, hp, hs⟩ := hR
  rcases h1 with ⟨a1, rfl, rfl⟩ | ⟨j, hj, rfl, h1⟩
  · rcases h2 with ⟨_, rfl, rfl⟩ | ⟨j, hj, rfl, _⟩
    · exact ⟨rfl, relI ⟨hc, hd, hw, hp, hs⟩⟩
    · exact absurd a1 (isG_y hj hc)
  · rcases h2 with ⟨a1, _⟩ | ⟨k, hk, e, h2⟩
    · exact absurd a1 (isG_y hj hc)
    · rw [nI_eq (by omega) (by omega)] at e
      subst e
      rcases h1 with ⟨a1, rfl, rfl⟩ | ⟨a1, rfl, rfl⟩
      · rcases h2 with ⟨_, rfl, rfl⟩ | ⟨z, _⟩
        · exact ⟨rfl, relI ⟨hc, hd, hw, hp, hs⟩⟩
        · exact absurd z (fun z => a1.elim z.1 (fun q => q z.2))
      · rcases h2 with ⟨z, _⟩ | ⟨_, rfl, rfl⟩
        · exact absurd a1 (fun a => z.elim a.1 (fun q => q a.2))
        · exact ⟨hp j hj, relI ⟨hc, hd, hw, pr_upd hp, hs⟩⟩
theorem pl_conditions {w pr dr kl fl : Nat → Int32} {c nd : Nat} {kc fc sv : Int32} {lt pm : Nat → Int32} {b : Nat}  (hR : RelP w pr dr kl fl c nd kc fc sv lt pm b) : ((nI c) : Int32) = (nI c) := by
  obtain ⟨hc, hd, hw, hp, hs⟩ := hR
  rfl
theorem pl_possible {w pr dr kl fl : Nat → Int32} {c nd : Nat} {kc fc sv : Int32} {lt pm : Nat → Int32} {b : Nat} {p0 : Int32} (hR : RelP w pr dr kl fl c nd kc fc sv lt pm b) : ((if isT p0 c = 0 then -1 else if comF w p0 c = 0 then 0 else 1) : Int32) = (if isU p0 c = 0 then (if fnd (fun v => alh lt p0 v c 0) 32 0 < 0 then 0 else 1) else -1) := by
  obtain ⟨hc, hd, hw, hp, hs⟩ := hR
  by_cases h : isT p0 c = 0
  · rw [if_pos h, if_neg (fun z => (isU_isT p0 c).mp z h)]
  · rw [if_neg h, if_pos ((isU_isT p0 c).mpr h)]
    by_cases z : comF w p0 c = 0
    · rw [if_pos z, if_pos ((com_zero hc hw p0).mp z)]
    · rw [if_neg z, if_neg (fun q => z ((com_zero hc hw p0).mpr q))]
theorem pl_model {w pr dr kl fl : Nat → Int32} {c nd : Nat} {kc fc sv : Int32} {lt pm : Nat → Int32} {b : Nat} {p0 : Int32} (hR : RelP w pr dr kl fl c nd kc fc sv lt pm b) : ((if isT p0 c = 0 then -1 else fnd (fun v => bt (comF w p0 c) v) 32 0) : Int32) = (if isU p0 c = 0 then fnd (fun v => alh lt p0 v c 0) 32 0 else -1) := by
  obtain ⟨hc, hd, hw, hp, hs⟩ := hR
  by_cases h : isT p0 c = 0
  · rw [if_pos h, if_neg (fun z => (isU_isT p0 c).mp z h)]
  · rw [if_neg h, if_pos ((isU_isT p0 c).mpr h)]
    exact fnd_both hc hw p0
theorem pl_kernels {w pr dr kl fl wt : Nat → Int32} {c nd : Nat} {kc fc sv : Int32} {lt pm ab : Nat → Int32} {b : Nat}  {r r' : Int32} {u : XS} {u' : MS} (hR : RelP w pr dr kl fl c nd kc fc sv lt pm b) (h1 : ∃ (kl1 fl1 wt1 : Nat → Int32) (y z : Nat), u = (w, pr, dr, kl1, fl1, wt1, nI c, (nI nd), nI y, nI z, 1) ∧ XSol w c kl1 fl1 y z ∧ r = nI (KL (okB w c) c).length) (h2 : ∃ ab1 : Nat → Int32, u' = (lt, pm, ab1, (nI b), nI c) ∧ r' = nI (KL (okM lt c) c).length) : r = r' ∧ Rel u u' := by
  obtain ⟨hc, hd, hw, hp, hs⟩ := hR
  obtain ⟨kl1, fl1, wt1, y, z, rfl, hX, rfl⟩ := h1
  obtain ⟨ab1, rfl, rfl⟩ := h2
  refine ⟨?_, relI ⟨hc, hd, hw, hp, Or.inr ⟨rfl, y, z, rfl, rfl, hX⟩⟩⟩
  rw [ok_both hc hw]
theorem pl_kernel {w pr dr kl fl wt : Nat → Int32} {c nd : Nat} {kc fc sv : Int32} {lt pm ab : Nat → Int32} {b : Nat} {p0 : Int32} {r r' : Int32} {u : XS} {u' : MS} (hR : RelP w pr dr kl fl c nd kc fc sv lt pm b) (h1 : ∃ (kl1 fl1 wt1 : Nat → Int32) (y z : Nat), u = (w, pr, dr, kl1, fl1, wt1, nI c, (nI nd), nI y, nI z, 1) ∧ XSol w c kl1 fl1 y z ∧ r = lsI (KL (okB w c) c) p0) (h2 : ∃ ab1 : Nat → Int32, u' = (lt, pm, ab1, (nI b), nI c) ∧ r' = lsI (KL (okM lt c) c) p0) : r = r' ∧ Rel u u' := by
  obtain ⟨hc, hd, hw, hp, hs⟩ := hR
  obtain ⟨kl1, fl1, wt1, y, z, rfl, hX, rfl⟩ := h1
  obtain ⟨ab1, rfl, rfl⟩ := h2
  refine ⟨?_, relI ⟨hc, hd, hw, hp, Or.inr ⟨rfl, y, z, rfl, rfl, hX⟩⟩⟩
  rw [ok_both hc hw]
theorem pl_corrections {w pr dr kl fl wt : Nat → Int32} {c nd : Nat} {kc fc sv : Int32} {lt pm ab : Nat → Int32} {b : Nat}  {r r' : Int32} {u : XS} {u' : MS} (hR : RelP w pr dr kl fl c nd kc fc sv lt pm b) (h1 : ∃ (kl1 fl1 wt1 : Nat → Int32) (y z : Nat), u = (w, pr, dr, kl1, fl1, wt1, nI c, (nI nd), nI y, nI z, 1) ∧ XSol w c kl1 fl1 y z ∧ r = nI (FL (okB w c) c).length) (h2 : ∃ ab1 : Nat → Int32, u' = (lt, pm, ab1, (nI b), nI c) ∧ r' = nI (FL (okM lt c) c).length) : r = r' ∧ Rel u u' := by
  obtain ⟨hc, hd, hw, hp, hs⟩ := hR
  obtain ⟨kl1, fl1, wt1, y, z, rfl, hX, rfl⟩ := h1
  obtain ⟨ab1, rfl, rfl⟩ := h2
  refine ⟨?_, relI ⟨hc, hd, hw, hp, Or.inr ⟨rfl, y, z, rfl, rfl, hX⟩⟩⟩
  rw [ok_both hc hw]
theorem pl_correction {w pr dr kl fl wt : Nat → Int32} {c nd : Nat} {kc fc sv : Int32} {lt pm ab : Nat → Int32} {b : Nat} {p0 : Int32} {r r' : Int32} {u : XS} {u' : MS} (hR : RelP w pr dr kl fl c nd kc fc sv lt pm b) (h1 : ∃ (kl1 fl1 wt1 : Nat → Int32) (y z : Nat), u = (w, pr, dr, kl1, fl1, wt1, nI c, (nI nd), nI y, nI z, 1) ∧ XSol w c kl1 fl1 y z ∧ r = lsI (FL (okB w c) c) p0) (h2 : ∃ ab1 : Nat → Int32, u' = (lt, pm, ab1, (nI b), nI c) ∧ r' = lsI (FL (okM lt c) c) p0) : r = r' ∧ Rel u u' := by
  obtain ⟨hc, hd, hw, hp, hs⟩ := hR
  obtain ⟨kl1, fl1, wt1, y, z, rfl, hX, rfl⟩ := h1
  obtain ⟨ab1, rfl, rfl⟩ := h2
  refine ⟨?_, relI ⟨hc, hd, hw, hp, Or.inr ⟨rfl, y, z, rfl, rfl, hX⟩⟩⟩
  rw [ok_both hc hw]
theorem pl_cheapest {w pr dr kl fl wt : Nat → Int32} {c nd : Nat} {kc fc sv : Int32} {lt pm ab : Nat → Int32} {b : Nat}  {r r' : Int32} {u : XS} {u' : MS} (hR : RelP w pr dr kl fl c nd kc fc sv lt pm b) (h1 : ∃ (kl1 fl1 wt1 : Nat → Int32) (y z : Nat), u = (w, pr, dr, kl1, fl1, wt1, nI c, (nI nd), nI y, nI z, 1) ∧ XSol w c kl1 fl1 y z ∧ r = priF pr ((FL (okB w c) c).foldl (stW (fun x => priF pr x c)) (-1)) c) (h2 : ∃ ab1 : Nat → Int32, u' = (lt, pm, ab1, (nI b), nI c) ∧ r' = priF pm ((FL (okM lt c) c).foldl (stW (fun x => priF pm x c)) (-1)) c) : r = r' ∧ Rel u u' := by
  obtain ⟨hc, hd, hw, hp, hs⟩ := hR
  obtain ⟨kl1, fl1, wt1, y, z, rfl, hX, rfl⟩ := h1
  obtain ⟨ab1, rfl, rfl⟩ := h2
  refine ⟨?_, relI ⟨hc, hd, hw, hp, Or.inr ⟨rfl, y, z, rfl, rfl, hX⟩⟩⟩
  rw [ok_both hc hw, show (fun x => priF pr x c) = fun x => priF pm x c from funext fun x => pri_both x c hp]
  exact pri_both _ c hp
theorem pl_cheapestSet {w pr dr kl fl wt : Nat → Int32} {c nd : Nat} {kc fc sv : Int32} {lt pm ab : Nat → Int32} {b : Nat}  {r r' : Int32} {u : XS} {u' : MS} (hR : RelP w pr dr kl fl c nd kc fc sv lt pm b) (h1 : ∃ (kl1 fl1 wt1 : Nat → Int32) (y z : Nat), u = (w, pr, dr, kl1, fl1, wt1, nI c, (nI nd), nI y, nI z, 1) ∧ XSol w c kl1 fl1 y z ∧ r = (FL (okB w c) c).foldl (stW (fun x => priF pr x c)) (-1)) (h2 : ∃ ab1 : Nat → Int32, u' = (lt, pm, ab1, (nI b), nI c) ∧ r' = (FL (okM lt c) c).foldl (stW (fun x => priF pm x c)) (-1)) : r = r' ∧ Rel u u' := by
  obtain ⟨hc, hd, hw, hp, hs⟩ := hR
  obtain ⟨kl1, fl1, wt1, y, z, rfl, hX, rfl⟩ := h1
  obtain ⟨ab1, rfl, rfl⟩ := h2
  refine ⟨?_, relI ⟨hc, hd, hw, hp, Or.inr ⟨rfl, y, z, rfl, rfl, hX⟩⟩⟩
  rw [ok_both hc hw, show (fun x => priF pr x c) = fun x => priF pm x c from funext fun x => pri_both x c hp]
theorem pl_smallest {w pr dr kl fl wt : Nat → Int32} {c nd : Nat} {kc fc sv : Int32} {lt pm ab : Nat → Int32} {b : Nat}  {r r' : Int32} {u : XS} {u' : MS} (hR : RelP w pr dr kl fl c nd kc fc sv lt pm b) (h1 : ∃ (kl1 fl1 wt1 : Nat → Int32) (y z : Nat), u = (w, pr, dr, kl1, fl1, wt1, nI c, (nI nd), nI y, nI z, 1) ∧ XSol w c kl1 fl1 y z ∧ r = (KL (okB w c) c).foldl stS 0) (h2 : ∃ ab1 : Nat → Int32, u' = (lt, pm, ab1, (nI b), nI c) ∧ r' = (KL (okM lt c) c).foldl stS 0) : r = r' ∧ Rel u u' := by
  obtain ⟨hc, hd, hw, hp, hs⟩ := hR
  obtain ⟨kl1, fl1, wt1, y, z, rfl, hX, rfl⟩ := h1
  obtain ⟨ab1, rfl, rfl⟩ := h2
  refine ⟨?_, relI ⟨hc, hd, hw, hp, Or.inr ⟨rfl, y, z, rfl, rfl, hX⟩⟩⟩
  rw [ok_both hc hw]
theorem pl_blame {w pr dr kl fl wt : Nat → Int32} {c nd : Nat} {kc fc sv : Int32} {lt pm ab : Nat → Int32} {b : Nat} {p0 : Int32} {r r' : Int32} {u : XS} {u' : MS} (hR : RelP w pr dr kl fl c nd kc fc sv lt pm b) (h1 : (isG p0 (nI c) = 0 ∧ r = -1 ∧ u = (w, pr, dr, kl, fl, wt, nI c, (nI nd), kc, fc, sv)) ∨ ¬ isG p0 (nI c) = 0 ∧ ∃ (kl1 fl1 wt1 : Nat → Int32) (y z : Nat), u = (w, pr, dr, kl1, fl1, wt1, nI c, (nI nd), nI y, nI z, 1) ∧ XSol w c kl1 fl1 y z ∧ r = (KL (okB w c) c).foldl (stB p0) 0) (h2 : (isG p0 (nI c) = 0 ∧ r' = -1 ∧ u' = (lt, pm, ab, (nI b), nI c)) ∨ ¬ isG p0 (nI c) = 0 ∧ ∃ ab1 : Nat → Int32, u' = (lt, pm, ab1, (nI b), nI c) ∧ r' = (KL (okM lt c) c).foldl (stB p0) 0) : r = r' ∧ Rel u u' := by
  obtain ⟨hc, hd, hw, hp, hs⟩ := hR
  rcases h1 with ⟨a1, rfl, rfl⟩ | ⟨a1, kl1, fl1, wt1, y, z, rfl, hX, rfl⟩
  · rcases h2 with ⟨_, rfl, rfl⟩ | ⟨a2, _⟩
    · exact ⟨rfl, relI ⟨hc, hd, hw, hp, hs⟩⟩
    · exact absurd a1 a2
  · rcases h2 with ⟨a2, _⟩ | ⟨_, ab1, rfl, rfl⟩
    · exact absurd a2 a1
    · refine ⟨?_, relI ⟨hc, hd, hw, hp, Or.inr ⟨rfl, y, z, rfl, rfl, hX⟩⟩⟩
      rw [ok_both hc hw]
theorem pl_core {w pr dr kl fl wt : Nat → Int32} {c nd : Nat} {kc fc sv : Int32} {lt pm ab : Nat → Int32} {b : Nat}  {r r' : Int32} {u : XS} {u' : MS} (hR : RelP w pr dr kl fl c nd kc fc sv lt pm b) (h1 : ∃ (kl1 fl1 wt1 : Nat → Int32) (y z : Nat), u = (w, pr, dr, kl1, fl1, wt1, nI c, (nI nd), nI y, nI z, 1) ∧ XSol w c kl1 fl1 y z ∧ r = (KL (okB w c) c).foldl stA (nI (2 ^ c - 1))) (h2 : ∃ ab1 : Nat → Int32, u' = (lt, pm, ab1, (nI b), nI c) ∧ r' = (KL (okM lt c) c).foldl stA (nI (2 ^ c - 1))) : r = r' ∧ Rel u u' := by
  obtain ⟨hc, hd, hw, hp, hs⟩ := hR
  obtain ⟨kl1, fl1, wt1, y, z, rfl, hX, rfl⟩ := h1
  obtain ⟨ab1, rfl, rfl⟩ := h2
  refine ⟨?_, relI ⟨hc, hd, hw, hp, Or.inr ⟨rfl, y, z, rfl, rfl, hX⟩⟩⟩
  rw [ok_both hc hw]
theorem pl_sort {w pr dr kl fl wt : Nat → Int32} {c nd : Nat} {kc fc sv : Int32} {lt pm ab : Nat → Int32} {b : Nat} {p0 : Int32} {r r' : Int32} {u : XS} {u' : MS} (hR : RelP w pr dr kl fl c nd kc fc sv lt pm b) (h1 : (isT p0 c = 0 ∧ r = -1 ∧ u = (w, pr, dr, kl, fl, wt, nI c, (nI nd), kc, fc, sv)) ∨ ¬ isT p0 c = 0 ∧ ∃ (kl1 fl1 wt1 : Nat → Int32) (y z : Nat), u = (w, pr, dr, kl1, fl1, wt1, nI c, (nI nd), nI y, nI z, 1) ∧ XSol w c kl1 fl1 y z ∧ r = (if isK (okB w c) c p0.toNatClampNeg then 1 else if isC (okB w c) c p0.toNatClampNeg then 2 else 0)) (h2 : (isT p0 c = 0 ∧ r' = -1 ∧ u' = (lt, pm, ab, (nI b), nI c)) ∨ ¬ isT p0 c = 0 ∧ ∃ ab1 : Nat → Int32, u' = (lt, pm, ab1, (nI b), nI c) ∧ r' = (if isK (okM lt c) c p0.toNatClampNeg then 1 else if isC (okM lt c) c p0.toNatClampNeg then 2 else 0)) : r = r' ∧ Rel u u' := by
  obtain ⟨hc, hd, hw, hp, hs⟩ := hR
  rcases h1 with ⟨a1, rfl, rfl⟩ | ⟨a1, kl1, fl1, wt1, y, z, rfl, hX, rfl⟩
  · rcases h2 with ⟨_, rfl, rfl⟩ | ⟨a2, _⟩
    · exact ⟨rfl, relI ⟨hc, hd, hw, hp, hs⟩⟩
    · exact absurd a1 a2
  · rcases h2 with ⟨a2, _⟩ | ⟨_, ab1, rfl, rfl⟩
    · exact absurd a2 a1
    · refine ⟨?_, relI ⟨hc, hd, hw, hp, Or.inr ⟨rfl, y, z, rfl, rfl, hX⟩⟩⟩
      rw [ok_both hc hw]
theorem pl_width {w pr dr kl fl : Nat → Int32} {c nd : Nat} {kc fc sv : Int32} {lt pm : Nat → Int32} {b : Nat} {p0 : Int32} (hR : RelP w pr dr kl fl c nd kc fc sv lt pm b) : ((if isG p0 (nI c) = 0 then -1 else sumF (fun k => ub (w p0.toNatClampNeg) k) 32) : Int32) = (if isB p0 (nI c) = 0 then sumF (fun v => b2i (holB (lt p0.toNatClampNeg) v)) 32 else -1) := by
  obtain ⟨hc, hd, hw, hp, hs⟩ := hR
  by_cases h : isG p0 (nI c) = 0
  · rw [if_pos h, if_neg (fun z => (isB_isG p0 (nI c)).mp z h)]
  · rw [if_neg h, if_pos ((isB_isG p0 (nI c)).mpr h)]
    obtain ⟨j, hj, rfl⟩ := isG_t hc h
    rw [nI_clamp (by omega)]
    refine sum_both 32 (fun v hv => ?_)
    show ub (w j) v = b2i (holB (lt j) v)
    rw [ub_eq _ hv, hw j hj v hv]
end
section
/-! the two constructors: rows printed by gen/m_i.py -/
set_option maxRecDepth 100000

abbrev fX0_new : List Value := [.null, .null, .null, .null, .null, .null, .int 0, .int 0, .int 0, .int 0, .int 0]
abbrev sX0_new : XS := (fun _ => 0, fun _ => 0, fun _ => 0, fun _ => 0, fun _ => 0, fun _ => 0, 0, 0, 0, 0, 0)
abbrev wX0_new (h0 : Nat) : va_W := [(h0, .inr (0, fX0_new))]
set_option maxHeartbeats 4000000 in
theorem mX0_init (l : Launch) (D : va_G) (h0 sz : Nat) : Met l yX0_init (ws_ yX0_init cX0_init 1 none) ({ frames := 1, cells := 6, slots := 290, locals := 12 } : Room) (va_Pc [.ref h0] (fun U => U.heap.size = sz ∧ va_P D vwCl (wX0_new h0) U.heap ∧ va_K D vwCl [] U)) (va_Qv (fun (u : (Nat → Nat) × (Nat → ClassId)) => u.1 0 = h0) (fun u t => va_P D vwCl (xwS u.1 u.2 sX0_new) t.heap ∧ va_K D vwCl (xt u.2) t ∧ va_D (va_A (wX0_new h0) sz) (xwS u.1 u.2 sX0_new)) (va_A (wX0_new h0) sz)) 6 290 (va_A (wX0_new h0) sz) := by
  refine Met.ofW (cc := cX0_init) (maxL := 1) (ret := none) (by decide) rfl ?_
  intro p e s m args below meth cd s₁ B hml hv
  obtain ⟨rfl, hsz, hP, hK⟩ := hv
  have hx := B.exec
  have hb := B.bytes
  have hr := B.returns
  have hts := atoms_spec (ws := ws_ yX0_init cX0_init 1 none) B.pre
  have hts : ∀ w ∈ lw_all, w.before _ s = true := fun w h => hts w (List.mem_cons_of_mem _ h)
  have hown : s.vm.findClass RX0 = some m.cls := findClass_of_methodNamed B.named
  have hin : meth.name = "<init>" := (name_of_methodNamed B.named B.method).1
  subst hsz
  have hD : va_D (va_A (wX0_new h0) s.heap.size) (wX0_new h0) := ⟨fun i j x y hi hj _ => by have := (List.getElem?_eq_some_iff.mp hi).1; have := (List.getElem?_eq_some_iff.mp hj).1; simp at *; omega, fun _ _ hk => va_A.in hk⟩
  generalize hAe : va_A (wX0_new h0) s.heap.size = A at hD ⊢
  have hA : ∀ q : Nat, s.heap.size ≤ q → A q := fun q h => by rw [← hAe]; exact Or.inr h
  have hS : va_S A s.heap s.heap [] := va_S.rf
  have hl := lv_entry ([.ref h0]) (n := 1) (Nat.le_of_ble_eq_true rfl)
  rw [lg_entry_eq]
  generalize (lg_sl ([.ref h0]) ++ List.replicate (1 - (lg_sl ([.ref h0])).length) Slot.unset).toArray = ls at hl ⊢
  have hl : lv_has ls 1 [(0, .ref h0)] := hl
  refine lv_aload_n hx hb dX0_init_0 rfl (lv_at hl 0 rfl) ?_
  refine W.objInit hx hb hown (hts _ q33) (hts _ q34) (hts _ q35) rfl (by rw [hml]; exact hl.1) rfl dX0_init_1 (Nat.le_of_ble_eq_true rfl) (Nat.le_of_ble_eq_true rfl) ?_
  refine W.eq (g2 := F0 m 4 ls []) rfl ?_
  have hP : va_P D vwCl [(h0, .inr (0, [.null, .null, .null, .null, .null, .null, .int 0, .int 0, .int 0, .int 0, .int 0]))] s.heap := hP
  have hD : va_D A [(h0, .inr (0, [.null, .null, .null, .null, .null, .null, .int 0, .int 0, .int 0, .int 0, .int 0]))] := hD
  refine lv_aload_n hx hb dX0_init_4 rfl (lv_at hl 0 rfl) ?_
  refine lv_bipush (v := 9) hx hb dX0_init_5 (by decide) ?_
  refine va_newa (atype := .int) (ty := .int) (N' := 9) (a0 := (9, .inl (fun _ => 0))) hx hb (hts _ q70) rfl hK hP hD hS hA (fun _ => rfl) (by decide) (by decide) (Nat.le_of_ble_eq_true rfl) (Nat.le_of_ble_eq_true rfl) (Nat.le_of_ble_eq_true rfl) dX0_init_7 (fun a1 c1 H hK hP hD hS => ?_)
  have hP : va_P D vwCl [(h0, .inr (0, [.null, .null, .null, .null, .null, .null, .int 0, .int 0, .int 0, .int 0, .int 0])), (a1, .inl (c1, 9, .inl (fun _ => 0)))] H := hP
  have hD : va_D A [(h0, .inr (0, [.null, .null, .null, .null, .null, .null, .int 0, .int 0, .int 0, .int 0, .int 0])), (a1, .inl (c1, 9, .inl (fun _ => 0)))] := hD
  have hK : va_K D vwCl [(c1, .int)] s := hK
  refine W.widen (k := 1) (n := 9) (Nat.le_of_ble_eq_true rfl) (Nat.le_of_ble_eq_true rfl) ?_
  refine va_putF (D := D) (ci := 0) (v := .ref a1) (ty := .array .int) (C := RX0) (T := TX0) (N := 11) hx hb hts in_X0 tyX0 tyX0_ok nmX0 hown hK hP hD hS 0 rfl rfl 0 (by decide) (hts _ q36) (fun _ h9 => h9) rfl hin rfl (by decide +kernel) rfl rfl (Nat.le_of_ble_eq_true rfl) dX0_init_9 (fun H locs hP hD hS => ?_)
  have hP : va_P D vwCl [(h0, .inr (0, [.ref a1, .null, .null, .null, .null, .null, .int 0, .int 0, .int 0, .int 0, .int 0])), (a1, .inl (c1, 9, .inl (fun _ => 0)))] H := hP
  have hD : va_D A [(h0, .inr (0, [.ref a1, .null, .null, .null, .null, .null, .int 0, .int 0, .int 0, .int 0, .int 0])), (a1, .inl (c1, 9, .inl (fun _ => 0)))] := hD
  refine lv_aload_n hx hb dX0_init_12 rfl (lv_at hl 0 rfl) ?_
  refine lv_bipush (v := 9) hx hb dX0_init_13 (by decide) ?_
  refine va_newa (atype := .int) (ty := .int) (N' := 9) (a0 := (9, .inl (fun _ => 0))) hx hb (hts _ q70) rfl hK hP hD hS hA (fun _ => rfl) (by decide) (by decide) (Nat.le_of_ble_eq_true rfl) (Nat.le_of_ble_eq_true rfl) (Nat.le_of_ble_eq_true rfl) dX0_init_15 (fun a2 c2 H hK hP hD hS => ?_)
  have hP : va_P D vwCl [(h0, .inr (0, [.ref a1, .null, .null, .null, .null, .null, .int 0, .int 0, .int 0, .int 0, .int 0])), (a1, .inl (c1, 9, .inl (fun _ => 0))), (a2, .inl (c2, 9, .inl (fun _ => 0)))] H := hP
  have hD : va_D A [(h0, .inr (0, [.ref a1, .null, .null, .null, .null, .null, .int 0, .int 0, .int 0, .int 0, .int 0])), (a1, .inl (c1, 9, .inl (fun _ => 0))), (a2, .inl (c2, 9, .inl (fun _ => 0)))] := hD
  have hK : va_K D vwCl [(c1, .int), (c2, .int)] s := hK
  refine W.widen (k := 2) (n := 18) (Nat.le_of_ble_eq_true rfl) (Nat.le_of_ble_eq_true rfl) ?_
  refine va_putF (D := D) (ci := 0) (v := .ref a2) (ty := .array .int) (C := RX0) (T := TX0) (N := 11) hx hb hts in_X0 tyX0 tyX0_ok nmX0 hown hK hP hD hS 0 rfl rfl 1 (by decide) (hts _ q37) (fun _ h9 => h9) rfl hin rfl (by decide +kernel) rfl rfl (Nat.le_of_ble_eq_true rfl) dX0_init_17 (fun H locs hP hD hS => ?_)
  have hP : va_P D vwCl [(h0, .inr (0, [.ref a1, .ref a2, .null, .null, .null, .null, .int 0, .int 0, .int 0, .int 0, .int 0])), (a1, .inl (c1, 9, .inl (fun _ => 0))), (a2, .inl (c2, 9, .inl (fun _ => 0)))] H := hP
  have hD : va_D A [(h0, .inr (0, [.ref a1, .ref a2, .null, .null, .null, .null, .int 0, .int 0, .int 0, .int 0, .int 0])), (a1, .inl (c1, 9, .inl (fun _ => 0))), (a2, .inl (c2, 9, .inl (fun _ => 0)))] := hD
  refine lv_aload_n hx hb dX0_init_20 rfl (lv_at hl 0 rfl) ?_
  refine lv_iconst (v := 4) hx hb dX0_init_21 (by decide) ?_
  refine va_newa (atype := .int) (ty := .int) (N' := 4) (a0 := (4, .inl (fun _ => 0))) hx hb (hts _ q70) rfl hK hP hD hS hA (fun _ => rfl) (by decide) (by decide) (Nat.le_of_ble_eq_true rfl) (Nat.le_of_ble_eq_true rfl) (Nat.le_of_ble_eq_true rfl) dX0_init_22 (fun a3 c3 H hK hP hD hS => ?_)
  have hP : va_P D vwCl [(h0, .inr (0, [.ref a1, .ref a2, .null, .null, .null, .null, .int 0, .int 0, .int 0, .int 0, .int 0])), (a1, .inl (c1, 9, .inl (fun _ => 0))), (a2, .inl (c2, 9, .inl (fun _ => 0))), (a3, .inl (c3, 4, .inl (fun _ => 0)))] H := hP
  have hD : va_D A [(h0, .inr (0, [.ref a1, .ref a2, .null, .null, .null, .null, .int 0, .int 0, .int 0, .int 0, .int 0])), (a1, .inl (c1, 9, .inl (fun _ => 0))), (a2, .inl (c2, 9, .inl (fun _ => 0))), (a3, .inl (c3, 4, .inl (fun _ => 0)))] := hD
  have hK : va_K D vwCl [(c1, .int), (c2, .int), (c3, .int)] s := hK
  refine W.widen (k := 3) (n := 22) (Nat.le_of_ble_eq_true rfl) (Nat.le_of_ble_eq_true rfl) ?_
  refine va_putF (D := D) (ci := 0) (v := .ref a3) (ty := .array .int) (C := RX0) (T := TX0) (N := 11) hx hb hts in_X0 tyX0 tyX0_ok nmX0 hown hK hP hD hS 0 rfl rfl 2 (by decide) (hts _ q38) (fun _ h9 => h9) rfl hin rfl (by decide +kernel) rfl rfl (Nat.le_of_ble_eq_true rfl) dX0_init_24 (fun H locs hP hD hS => ?_)
  have hP : va_P D vwCl [(h0, .inr (0, [.ref a1, .ref a2, .ref a3, .null, .null, .null, .int 0, .int 0, .int 0, .int 0, .int 0])), (a1, .inl (c1, 9, .inl (fun _ => 0))), (a2, .inl (c2, 9, .inl (fun _ => 0))), (a3, .inl (c3, 4, .inl (fun _ => 0)))] H := hP
  have hD : va_D A [(h0, .inr (0, [.ref a1, .ref a2, .ref a3, .null, .null, .null, .int 0, .int 0, .int 0, .int 0, .int 0])), (a1, .inl (c1, 9, .inl (fun _ => 0))), (a2, .inl (c2, 9, .inl (fun _ => 0))), (a3, .inl (c3, 4, .inl (fun _ => 0)))] := hD
  refine lv_aload_n hx hb dX0_init_27 rfl (lv_at hl 0 rfl) ?_
  refine lv_bipush (v := 126) hx hb dX0_init_28 (by decide) ?_
  refine va_newa (atype := .int) (ty := .int) (N' := 126) (a0 := (126, .inl (fun _ => 0))) hx hb (hts _ q70) rfl hK hP hD hS hA (fun _ => rfl) (by decide) (by decide) (Nat.le_of_ble_eq_true rfl) (Nat.le_of_ble_eq_true rfl) (Nat.le_of_ble_eq_true rfl) dX0_init_30 (fun a4 c4 H hK hP hD hS => ?_)
  have hP : va_P D vwCl [(h0, .inr (0, [.ref a1, .ref a2, .ref a3, .null, .null, .null, .int 0, .int 0, .int 0, .int 0, .int 0])), (a1, .inl (c1, 9, .inl (fun _ => 0))), (a2, .inl (c2, 9, .inl (fun _ => 0))), (a3, .inl (c3, 4, .inl (fun _ => 0))), (a4, .inl (c4, 126, .inl (fun _ => 0)))] H := hP
  have hD : va_D A [(h0, .inr (0, [.ref a1, .ref a2, .ref a3, .null, .null, .null, .int 0, .int 0, .int 0, .int 0, .int 0])), (a1, .inl (c1, 9, .inl (fun _ => 0))), (a2, .inl (c2, 9, .inl (fun _ => 0))), (a3, .inl (c3, 4, .inl (fun _ => 0))), (a4, .inl (c4, 126, .inl (fun _ => 0)))] := hD
  have hK : va_K D vwCl [(c1, .int), (c2, .int), (c3, .int), (c4, .int)] s := hK
  refine W.widen (k := 4) (n := 148) (Nat.le_of_ble_eq_true rfl) (Nat.le_of_ble_eq_true rfl) ?_
  refine va_putF (D := D) (ci := 0) (v := .ref a4) (ty := .array .int) (C := RX0) (T := TX0) (N := 11) hx hb hts in_X0 tyX0 tyX0_ok nmX0 hown hK hP hD hS 0 rfl rfl 3 (by decide) (hts _ q39) (fun _ h9 => h9) rfl hin rfl (by decide +kernel) rfl rfl (Nat.le_of_ble_eq_true rfl) dX0_init_32 (fun H locs hP hD hS => ?_)
  have hP : va_P D vwCl [(h0, .inr (0, [.ref a1, .ref a2, .ref a3, .ref a4, .null, .null, .int 0, .int 0, .int 0, .int 0, .int 0])), (a1, .inl (c1, 9, .inl (fun _ => 0))), (a2, .inl (c2, 9, .inl (fun _ => 0))), (a3, .inl (c3, 4, .inl (fun _ => 0))), (a4, .inl (c4, 126, .inl (fun _ => 0)))] H := hP
  have hD : va_D A [(h0, .inr (0, [.ref a1, .ref a2, .ref a3, .ref a4, .null, .null, .int 0, .int 0, .int 0, .int 0, .int 0])), (a1, .inl (c1, 9, .inl (fun _ => 0))), (a2, .inl (c2, 9, .inl (fun _ => 0))), (a3, .inl (c3, 4, .inl (fun _ => 0))), (a4, .inl (c4, 126, .inl (fun _ => 0)))] := hD
  refine lv_aload_n hx hb dX0_init_35 rfl (lv_at hl 0 rfl) ?_
  refine lv_bipush (v := 126) hx hb dX0_init_36 (by decide) ?_
  refine va_newa (atype := .int) (ty := .int) (N' := 126) (a0 := (126, .inl (fun _ => 0))) hx hb (hts _ q70) rfl hK hP hD hS hA (fun _ => rfl) (by decide) (by decide) (Nat.le_of_ble_eq_true rfl) (Nat.le_of_ble_eq_true rfl) (Nat.le_of_ble_eq_true rfl) dX0_init_38 (fun a5 c5 H hK hP hD hS => ?_)
  have hP : va_P D vwCl [(h0, .inr (0, [.ref a1, .ref a2, .ref a3, .ref a4, .null, .null, .int 0, .int 0, .int 0, .int 0, .int 0])), (a1, .inl (c1, 9, .inl (fun _ => 0))), (a2, .inl (c2, 9, .inl (fun _ => 0))), (a3, .inl (c3, 4, .inl (fun _ => 0))), (a4, .inl (c4, 126, .inl (fun _ => 0))), (a5, .inl (c5, 126, .inl (fun _ => 0)))] H := hP
  have hD : va_D A [(h0, .inr (0, [.ref a1, .ref a2, .ref a3, .ref a4, .null, .null, .int 0, .int 0, .int 0, .int 0, .int 0])), (a1, .inl (c1, 9, .inl (fun _ => 0))), (a2, .inl (c2, 9, .inl (fun _ => 0))), (a3, .inl (c3, 4, .inl (fun _ => 0))), (a4, .inl (c4, 126, .inl (fun _ => 0))), (a5, .inl (c5, 126, .inl (fun _ => 0)))] := hD
  have hK : va_K D vwCl [(c1, .int), (c2, .int), (c3, .int), (c4, .int), (c5, .int)] s := hK
  refine W.widen (k := 5) (n := 274) (Nat.le_of_ble_eq_true rfl) (Nat.le_of_ble_eq_true rfl) ?_
  refine va_putF (D := D) (ci := 0) (v := .ref a5) (ty := .array .int) (C := RX0) (T := TX0) (N := 11) hx hb hts in_X0 tyX0 tyX0_ok nmX0 hown hK hP hD hS 0 rfl rfl 4 (by decide) (hts _ q40) (fun _ h9 => h9) rfl hin rfl (by decide +kernel) rfl rfl (Nat.le_of_ble_eq_true rfl) dX0_init_40 (fun H locs hP hD hS => ?_)
  have hP : va_P D vwCl [(h0, .inr (0, [.ref a1, .ref a2, .ref a3, .ref a4, .ref a5, .null, .int 0, .int 0, .int 0, .int 0, .int 0])), (a1, .inl (c1, 9, .inl (fun _ => 0))), (a2, .inl (c2, 9, .inl (fun _ => 0))), (a3, .inl (c3, 4, .inl (fun _ => 0))), (a4, .inl (c4, 126, .inl (fun _ => 0))), (a5, .inl (c5, 126, .inl (fun _ => 0)))] H := hP
  have hD : va_D A [(h0, .inr (0, [.ref a1, .ref a2, .ref a3, .ref a4, .ref a5, .null, .int 0, .int 0, .int 0, .int 0, .int 0])), (a1, .inl (c1, 9, .inl (fun _ => 0))), (a2, .inl (c2, 9, .inl (fun _ => 0))), (a3, .inl (c3, 4, .inl (fun _ => 0))), (a4, .inl (c4, 126, .inl (fun _ => 0))), (a5, .inl (c5, 126, .inl (fun _ => 0)))] := hD
  refine lv_aload_n hx hb dX0_init_43 rfl (lv_at hl 0 rfl) ?_
  refine lv_bipush (v := 16) hx hb dX0_init_44 (by decide) ?_
  refine va_newa (atype := .int) (ty := .int) (N' := 16) (a0 := (16, .inl (fun _ => 0))) hx hb (hts _ q70) rfl hK hP hD hS hA (fun _ => rfl) (by decide) (by decide) (Nat.le_of_ble_eq_true rfl) (Nat.le_of_ble_eq_true rfl) (Nat.le_of_ble_eq_true rfl) dX0_init_46 (fun a6 c6 H hK hP hD hS => ?_)
  have hP : va_P D vwCl [(h0, .inr (0, [.ref a1, .ref a2, .ref a3, .ref a4, .ref a5, .null, .int 0, .int 0, .int 0, .int 0, .int 0])), (a1, .inl (c1, 9, .inl (fun _ => 0))), (a2, .inl (c2, 9, .inl (fun _ => 0))), (a3, .inl (c3, 4, .inl (fun _ => 0))), (a4, .inl (c4, 126, .inl (fun _ => 0))), (a5, .inl (c5, 126, .inl (fun _ => 0))), (a6, .inl (c6, 16, .inl (fun _ => 0)))] H := hP
  have hD : va_D A [(h0, .inr (0, [.ref a1, .ref a2, .ref a3, .ref a4, .ref a5, .null, .int 0, .int 0, .int 0, .int 0, .int 0])), (a1, .inl (c1, 9, .inl (fun _ => 0))), (a2, .inl (c2, 9, .inl (fun _ => 0))), (a3, .inl (c3, 4, .inl (fun _ => 0))), (a4, .inl (c4, 126, .inl (fun _ => 0))), (a5, .inl (c5, 126, .inl (fun _ => 0))), (a6, .inl (c6, 16, .inl (fun _ => 0)))] := hD
  have hK : va_K D vwCl [(c1, .int), (c2, .int), (c3, .int), (c4, .int), (c5, .int), (c6, .int)] s := hK
  refine W.widen (k := 6) (n := 290) (Nat.le_of_ble_eq_true rfl) (Nat.le_of_ble_eq_true rfl) ?_
  refine va_putF (D := D) (ci := 0) (v := .ref a6) (ty := .array .int) (C := RX0) (T := TX0) (N := 11) hx hb hts in_X0 tyX0 tyX0_ok nmX0 hown hK hP hD hS 0 rfl rfl 5 (by decide) (hts _ q41) (fun _ h9 => h9) rfl hin rfl (by decide +kernel) rfl rfl (Nat.le_of_ble_eq_true rfl) dX0_init_48 (fun H locs hP hD hS => ?_)
  have hP : va_P D vwCl [(h0, .inr (0, [.ref a1, .ref a2, .ref a3, .ref a4, .ref a5, .ref a6, .int 0, .int 0, .int 0, .int 0, .int 0])), (a1, .inl (c1, 9, .inl (fun _ => 0))), (a2, .inl (c2, 9, .inl (fun _ => 0))), (a3, .inl (c3, 4, .inl (fun _ => 0))), (a4, .inl (c4, 126, .inl (fun _ => 0))), (a5, .inl (c5, 126, .inl (fun _ => 0))), (a6, .inl (c6, 16, .inl (fun _ => 0)))] H := hP
  have hD : va_D A [(h0, .inr (0, [.ref a1, .ref a2, .ref a3, .ref a4, .ref a5, .ref a6, .int 0, .int 0, .int 0, .int 0, .int 0])), (a1, .inl (c1, 9, .inl (fun _ => 0))), (a2, .inl (c2, 9, .inl (fun _ => 0))), (a3, .inl (c3, 4, .inl (fun _ => 0))), (a4, .inl (c4, 126, .inl (fun _ => 0))), (a5, .inl (c5, 126, .inl (fun _ => 0))), (a6, .inl (c6, 16, .inl (fun _ => 0)))] := hD
  refine lv_aload_n hx hb dX0_init_51 rfl (lv_at hl 0 rfl) ?_
  refine lv_iconst (v := 0) hx hb dX0_init_52 (by decide) ?_
  refine va_put (D := D) (ci := 0) (v := .int 0) (ty := .int) (C := RX0) (T := TX0) (N := 11) hx hb hts in_X0 tyX0 tyX0_ok nmX0 hown hK hP hD hS 0 rfl rfl 6 (by decide) (hts _ q42) (fun _ h9 => h9) rfl (by decide +kernel) rfl rfl (Nat.le_of_ble_eq_true rfl) dX0_init_53 (fun H locs hP hD hS => ?_)
  have hP : va_P D vwCl [(h0, .inr (0, [.ref a1, .ref a2, .ref a3, .ref a4, .ref a5, .ref a6, .int 0, .int 0, .int 0, .int 0, .int 0])), (a1, .inl (c1, 9, .inl (fun _ => 0))), (a2, .inl (c2, 9, .inl (fun _ => 0))), (a3, .inl (c3, 4, .inl (fun _ => 0))), (a4, .inl (c4, 126, .inl (fun _ => 0))), (a5, .inl (c5, 126, .inl (fun _ => 0))), (a6, .inl (c6, 16, .inl (fun _ => 0)))] H := hP
  have hD : va_D A [(h0, .inr (0, [.ref a1, .ref a2, .ref a3, .ref a4, .ref a5, .ref a6, .int 0, .int 0, .int 0, .int 0, .int 0])), (a1, .inl (c1, 9, .inl (fun _ => 0))), (a2, .inl (c2, 9, .inl (fun _ => 0))), (a3, .inl (c3, 4, .inl (fun _ => 0))), (a4, .inl (c4, 126, .inl (fun _ => 0))), (a5, .inl (c5, 126, .inl (fun _ => 0))), (a6, .inl (c6, 16, .inl (fun _ => 0)))] := hD
  exact W.vret hx hb hr (fun t ht hW => ⟨⟨(fun k => match k with | 0 => h0 | 1 => a1 | 2 => a2 | 3 => a3 | 4 => a4 | 5 => a5 | 6 => a6 | _ => 0, fun k => match k with | 1 => c1 | 2 => c2 | 3 => c3 | 4 => c4 | 5 => c5 | 6 => c6 | _ => c1), rfl, rfl, by rw [ht]; exact hP, va_K.moved hW.alike hK, hD⟩, hS.F ht⟩) hS.2.2 dX0_init_56

abbrev fX1_new : List Value := [.int 0, .int 0, .null, .null, .null]
abbrev sX1_new : MS := (fun _ => 0, fun _ => 0, fun _ => 0, 0, 0)
abbrev wX1_new (h0 : Nat) : va_W := [(h0, .inr (1, fX1_new))]
set_option maxHeartbeats 4000000 in
theorem mX1_init (l : Launch) (D : va_G) (h0 sz : Nat) : Met l yX1_init (ws_ yX1_init cX1_init 1 none) ({ frames := 1, cells := 3, slots := 530, locals := 12 } : Room) (va_Pc [.ref h0] (fun U => U.heap.size = sz ∧ va_P D vwCl (wX1_new h0) U.heap ∧ va_K D vwCl [] U)) (va_Qv (fun (u : (Nat → Nat) × (Nat → ClassId)) => u.1 0 = h0) (fun u t => va_P D vwCl (mwS u.1 u.2 sX1_new) t.heap ∧ va_K D vwCl (mt u.2) t ∧ va_D (va_A (wX1_new h0) sz) (mwS u.1 u.2 sX1_new)) (va_A (wX1_new h0) sz)) 3 530 (va_A (wX1_new h0) sz) := by
  refine Met.ofW (cc := cX1_init) (maxL := 1) (ret := none) (by decide) rfl ?_
  intro p e s m args below meth cd s₁ B hml hv
  obtain ⟨rfl, hsz, hP, hK⟩ := hv
  have hx := B.exec
  have hb := B.bytes
  have hr := B.returns
  have hts := atoms_spec (ws := ws_ yX1_init cX1_init 1 none) B.pre
  have hts : ∀ w ∈ lw_all, w.before _ s = true := fun w h => hts w (List.mem_cons_of_mem _ h)
  have hown : s.vm.findClass RX1 = some m.cls := findClass_of_methodNamed B.named
  have hin : meth.name = "<init>" := (name_of_methodNamed B.named B.method).1
  subst hsz
  have hD : va_D (va_A (wX1_new h0) s.heap.size) (wX1_new h0) := ⟨fun i j x y hi hj _ => by have := (List.getElem?_eq_some_iff.mp hi).1; have := (List.getElem?_eq_some_iff.mp hj).1; simp at *; omega, fun _ _ hk => va_A.in hk⟩
  generalize hAe : va_A (wX1_new h0) s.heap.size = A at hD ⊢
  have hA : ∀ q : Nat, s.heap.size ≤ q → A q := fun q h => by rw [← hAe]; exact Or.inr h
  have hS : va_S A s.heap s.heap [] := va_S.rf
  have hl := lv_entry ([.ref h0]) (n := 1) (Nat.le_of_ble_eq_true rfl)
  rw [lg_entry_eq]
  generalize (lg_sl ([.ref h0]) ++ List.replicate (1 - (lg_sl ([.ref h0])).length) Slot.unset).toArray = ls at hl ⊢
  have hl : lv_has ls 1 [(0, .ref h0)] := hl
  refine lv_aload_n hx hb dX1_init_0 rfl (lv_at hl 0 rfl) ?_
  refine W.objInit hx hb hown (hts _ q211) (hts _ q34) (hts _ q35) rfl (by rw [hml]; exact hl.1) rfl dX1_init_1 (Nat.le_of_ble_eq_true rfl) (Nat.le_of_ble_eq_true rfl) ?_
  refine W.eq (g2 := F0 m 4 ls []) rfl ?_
  have hP : va_P D vwCl [(h0, .inr (1, [.int 0, .int 0, .null, .null, .null]))] s.heap := hP
  have hD : va_D A [(h0, .inr (1, [.int 0, .int 0, .null, .null, .null]))] := hD
  refine lv_aload_n hx hb dX1_init_4 rfl (lv_at hl 0 rfl) ?_
  refine lv_bipush (v := 9) hx hb dX1_init_5 (by decide) ?_
  refine va_newa (atype := .int) (ty := .int) (N' := 9) (a0 := (9, .inl (fun _ => 0))) hx hb (hts _ q70) rfl hK hP hD hS hA (fun _ => rfl) (by decide) (by decide) (Nat.le_of_ble_eq_true rfl) (Nat.le_of_ble_eq_true rfl) (Nat.le_of_ble_eq_true rfl) dX1_init_7 (fun a1 c1 H hK hP hD hS => ?_)
  have hP : va_P D vwCl [(h0, .inr (1, [.int 0, .int 0, .null, .null, .null])), (a1, .inl (c1, 9, .inl (fun _ => 0)))] H := hP
  have hD : va_D A [(h0, .inr (1, [.int 0, .int 0, .null, .null, .null])), (a1, .inl (c1, 9, .inl (fun _ => 0)))] := hD
  have hK : va_K D vwCl [(c1, .int)] s := hK
  refine W.widen (k := 1) (n := 9) (Nat.le_of_ble_eq_true rfl) (Nat.le_of_ble_eq_true rfl) ?_
  refine va_put (D := D) (ci := 1) (v := .ref a1) (ty := .array .int) (C := RX1) (T := TX1) (N := 5) hx hb hts in_X1 tyX1 tyX1_ok nmX1 hown hK hP hD hS 0 rfl rfl 2 (by decide) (hts _ q214) (fun _ h9 => h9) rfl (by decide +kernel) rfl rfl (Nat.le_of_ble_eq_true rfl) dX1_init_9 (fun H locs hP hD hS => ?_)
  have hP : va_P D vwCl [(h0, .inr (1, [.int 0, .int 0, .ref a1, .null, .null])), (a1, .inl (c1, 9, .inl (fun _ => 0)))] H := hP
  have hD : va_D A [(h0, .inr (1, [.int 0, .int 0, .ref a1, .null, .null])), (a1, .inl (c1, 9, .inl (fun _ => 0)))] := hD
  refine lv_aload_n hx hb dX1_init_12 rfl (lv_at hl 0 rfl) ?_
  refine lv_bipush (v := 9) hx hb dX1_init_13 (by decide) ?_
  refine va_newa (atype := .int) (ty := .int) (N' := 9) (a0 := (9, .inl (fun _ => 0))) hx hb (hts _ q70) rfl hK hP hD hS hA (fun _ => rfl) (by decide) (by decide) (Nat.le_of_ble_eq_true rfl) (Nat.le_of_ble_eq_true rfl) (Nat.le_of_ble_eq_true rfl) dX1_init_15 (fun a2 c2 H hK hP hD hS => ?_)
  have hP : va_P D vwCl [(h0, .inr (1, [.int 0, .int 0, .ref a1, .null, .null])), (a1, .inl (c1, 9, .inl (fun _ => 0))), (a2, .inl (c2, 9, .inl (fun _ => 0)))] H := hP
  have hD : va_D A [(h0, .inr (1, [.int 0, .int 0, .ref a1, .null, .null])), (a1, .inl (c1, 9, .inl (fun _ => 0))), (a2, .inl (c2, 9, .inl (fun _ => 0)))] := hD
  have hK : va_K D vwCl [(c1, .int), (c2, .int)] s := hK
  refine W.widen (k := 2) (n := 18) (Nat.le_of_ble_eq_true rfl) (Nat.le_of_ble_eq_true rfl) ?_
  refine va_put (D := D) (ci := 1) (v := .ref a2) (ty := .array .int) (C := RX1) (T := TX1) (N := 5) hx hb hts in_X1 tyX1 tyX1_ok nmX1 hown hK hP hD hS 0 rfl rfl 3 (by decide) (hts _ q215) (fun _ h9 => h9) rfl (by decide +kernel) rfl rfl (Nat.le_of_ble_eq_true rfl) dX1_init_17 (fun H locs hP hD hS => ?_)
  have hP : va_P D vwCl [(h0, .inr (1, [.int 0, .int 0, .ref a1, .ref a2, .null])), (a1, .inl (c1, 9, .inl (fun _ => 0))), (a2, .inl (c2, 9, .inl (fun _ => 0)))] H := hP
  have hD : va_D A [(h0, .inr (1, [.int 0, .int 0, .ref a1, .ref a2, .null])), (a1, .inl (c1, 9, .inl (fun _ => 0))), (a2, .inl (c2, 9, .inl (fun _ => 0)))] := hD
  refine lv_aload_n hx hb dX1_init_20 rfl (lv_at hl 0 rfl) ?_
  refine lv_sipush (v := 512) hx hb dX1_init_21 (by decide) ?_
  refine va_newa (atype := .boolean) (ty := .boolean) (N' := 512) (a0 := (512, .inl (fun _ => 0))) hx hb (hts _ q228) rfl hK hP hD hS hA (fun _ => rfl) (by decide) (by decide) (Nat.le_of_ble_eq_true rfl) (Nat.le_of_ble_eq_true rfl) (Nat.le_of_ble_eq_true rfl) dX1_init_24 (fun a3 c3 H hK hP hD hS => ?_)
  have hP : va_P D vwCl [(h0, .inr (1, [.int 0, .int 0, .ref a1, .ref a2, .null])), (a1, .inl (c1, 9, .inl (fun _ => 0))), (a2, .inl (c2, 9, .inl (fun _ => 0))), (a3, .inl (c3, 512, .inl (fun _ => 0)))] H := hP
  have hD : va_D A [(h0, .inr (1, [.int 0, .int 0, .ref a1, .ref a2, .null])), (a1, .inl (c1, 9, .inl (fun _ => 0))), (a2, .inl (c2, 9, .inl (fun _ => 0))), (a3, .inl (c3, 512, .inl (fun _ => 0)))] := hD
  have hK : va_K D vwCl [(c1, .int), (c2, .int), (c3, .boolean)] s := hK
  refine W.widen (k := 3) (n := 530) (Nat.le_of_ble_eq_true rfl) (Nat.le_of_ble_eq_true rfl) ?_
  refine va_put (D := D) (ci := 1) (v := .ref a3) (ty := .array .boolean) (C := RX1) (T := TX1) (N := 5) hx hb hts in_X1 tyX1 tyX1_ok nmX1 hown hK hP hD hS 0 rfl rfl 4 (by decide) (hts _ q216) (fun _ h9 => h9) rfl (by decide +kernel) rfl rfl (Nat.le_of_ble_eq_true rfl) dX1_init_26 (fun H locs hP hD hS => ?_)
  have hP : va_P D vwCl [(h0, .inr (1, [.int 0, .int 0, .ref a1, .ref a2, .ref a3])), (a1, .inl (c1, 9, .inl (fun _ => 0))), (a2, .inl (c2, 9, .inl (fun _ => 0))), (a3, .inl (c3, 512, .inl (fun _ => 0)))] H := hP
  have hD : va_D A [(h0, .inr (1, [.int 0, .int 0, .ref a1, .ref a2, .ref a3])), (a1, .inl (c1, 9, .inl (fun _ => 0))), (a2, .inl (c2, 9, .inl (fun _ => 0))), (a3, .inl (c3, 512, .inl (fun _ => 0)))] := hD
  exact W.vret hx hb hr (fun t ht hW => ⟨⟨(fun k => match k with | 0 => h0 | 1 => a1 | 2 => a2 | 3 => a3 | _ => 0, fun k => match k with | 1 => c1 | 2 => c2 | 3 => c3 | _ => c1), rfl, rfl, by rw [ht]; exact hP, va_K.moved hW.alike hK, hD⟩, hS.F ht⟩) hS.2.2 dX1_init_29
end
section
/-! the law: its end, its entry (rows of laws/SKELETON.whole), calls beside another object, the context of its loop -/
set_option maxRecDepth 100000
def R_law : String := "ConflictSetsLaw"
def lw_P (b : Addr) (xs : List Int32) (args : Array Value) (s : State) : Prop := args = #[.ref b] ∧ s.IntsAt b xs ∧ xs.length ≤ 192 ∧ (Jvm.Cond.and given_1 narrow_1).before args s = true
def lw_Q (_ : Array Value) (s : State) (o : Outcome) (t : State) : Prop := o = .returned (some (.int 1)) ∧ Framed s o t [] 600000 7290000
def lw_Z (below : List Frame) (a : Array Value) (s : State) : State → Prop := fun t => ∃ o, t.status = .running ∧ Ended t below o ∧ lw_Q a s o t
/-- the law's own end, with 1 on the stack, nothing written that was there before, its room as the claim has it -/
theorem lw_ret {p : Program} {l : Launch} {e : Env} {s : State} {m : MethodId} {below : List Frame} {meth : Method} {c : Code} {b : Nat} (hx : p.tables.exec = Jvm.exec) (hb : c.code = code) (hr : meth.sig.returnType = ret) (hlocks : meth.locks = false) {pc : Nat} {H : Heap} {ls : Array Slot} (hdg : decode code pc = .ok (.ireturn, 1)) : W p l e room_1 s m #[Value.ref b] below meth c H [] 600000 7290000 (lw_Z below #[Value.ref b] s) (F0 m pc ls [.int 1]) := by
  intro T hT X
  obtain ⟨fs, hret, hrun, hended, hW, hframe⟩ := X.leave (v := some (.int 1)) (hlocks := hlocks) (fun h => by rw [hr] at h; cases h)
  have hmeth' : T.vm.method? m = some meth := X.method'
  refine ⟨T.setFrames fs, ?_, .returned (some (.int 1)), hrun, hended, rfl, ⟨_, rfl⟩, hW, hframe⟩
  jvm_step X.here [X.here.top, hx, hb, hdg, hmeth', hr, ret, narrow_b1]
  (try refine ⟨rfl, ?_⟩); (try refine ⟨rfl, ?_⟩)
  first | (intro acts; rw [hret _ acts rfl rfl rfl]) | rw [hret _ _ rfl rfl rfl]
  exact Steps.refl _
/-- what holds at the law's entry: the machine, the code, the tables' words (any of lw_tbl by 'hts w (by decide +kernel)'), the script of L ints xs at the cell b, what the Statement gives of the start (any of its parts by flat_of_before) -/
def lw_At (p : Program) (s : State) (m : MethodId) (meth : Method) (c : Code) (b L : Nat) (xs : Nat → Int32) : Prop :=
  p.tables.exec = Jvm.exec ∧ c.code = code ∧ meth.sig.returnType = ret ∧ c.maxLocals = 4 ∧ s.vm.findClass R_law = some m.cls ∧ (∀ w ∈ lw_tbl, w.before #[Value.ref b] s = true) ∧ va_X b L xs s s.heap ∧ b < s.heap.size ∧ meth.locks = false ∧ (Jvm.Cond.and given_1 narrow_1).before #[Value.ref b] s = true
section GL
variable {p : Program} {l : Launch} {e : Env} {R : Room} {s : State} {m : MethodId} {args : Array Value} {below : List Frame} {meth : Method} {cd : Code} {H : Heap} {locs : List Loc} {cells slots : Nat} {Q : State → Prop}
variable {cc : ByteArray} {pc : Nat} {ls : Array Slot} {rest st0 : List Value} {D : va_G} {A : Nat → Prop} {H0 : Heap}
/-- a call on one object: another one beside it stays -/
theorem g_callF {S : Type} {wf : S → va_W} {post : Int32 → S → Prop} {a : Array Value} {n : Nat} {q : Nat → Nat} {ws2 : va_W} (hr : va_Run p l e R s m args below meth cd H locs cells slots 0 0 (F0 m pc ls st0) rest (gQi D wf post (gA n q) a) (gA n q)) (hS : va_S A H0 H locs) (hA : ∀ i, i < n → A (q i)) (hP2 : va_P D vwCl ws2 H) (hsep : ∀ (k : Nat) (x : Nat × va_E), ws2[k]? = some x → ∀ i, i < n → x.1 ≠ q i)
    (kk : ∀ (r : Int32) (u : S) (H1 : Heap) (locs1 : List Loc), post r u → va_P D vwCl (wf u) H1 → va_P D vwCl ws2 H1 → va_S A H0 H1 locs1 → W p l e R s m args below meth cd H1 locs1 cells slots Q (F0 m (pc + 3) ls (.int r :: rest))) : W p l e R s m args below meth cd H locs cells slots Q (F0 m pc ls st0) := by
  have hg : ∀ x, gA n q x → A x := fun x h => by
    obtain ⟨k, hk, e⟩ := h
    rw [e]
    exact hA k hk
  exact va_calli (A1 := gA n q) hr hS (fun x _ h => hg x h) (fun x h => hg x h) (fun r u t H1 locs1 ht _ hp hB _ hk1 hS1 => kk r u H1 locs1 hp (by rw [← ht]; exact hB) (hP2.kept (fun k x hx => hk1 x.1 ((hP2 k x hx).lt) (fun h => by
    obtain ⟨i, hi, e⟩ := h
    exact hsep k x hx i hi e))) hS1)
/-- the script's k-th int -/
theorem l_sld (hexec : p.tables.exec = Jvm.exec) (hb : cd.code = cc) {b L : Nat} {xs : Nat → Int32} (hX : va_X b L xs s H0) (hbl : b < H0.size) (hbA : ¬ A b) (hS : va_S A H0 H locs) {k : Nat} (hk : k < L) (hL : L < 2 ^ 31) (hdg : decode cc pc = .ok (.iaload, 1))
    (kk : W p l e R s m args below meth cd H locs cells slots Q (F0 m (pc + 1) ls (.int (xs k) :: rest))) : W p l e R s m args below meth cd H locs cells slots Q (F0 m pc ls (.int (nI k) :: .ref b :: rest)) := by
  refine va_sld hexec hb hX hbl hbA hS (vp_in_nI hk hL) hdg ?_
  rw [nI_clamp (Nat.lt_trans hk hL)]
  exact kk
end GL
theorem sep_m {q q2 : Nat → Nat} {d : Nat → ClassId} {lt pm ab : Nat → Int32} {dm cm : Int32} (h : ∀ i j, i < 7 → j < 4 → q i ≠ q2 j) : ∀ (k : Nat) (x : Nat × va_E), (mw q2 d lt pm ab dm cm)[k]? = some x → ∀ i, i < 7 → x.1 ≠ q i := by
  intro k x hk i hi e
  obtain ⟨a1, a2⟩ := m_addr hk
  exact h i k hi a1 (by rw [← e, a2])
theorem sep_x {q q2 : Nat → Nat} {d : Nat → ClassId} {w pr dr kl fl wt : Nat → Int32} {cn ds kc fc sv : Int32} (h : ∀ i j, i < 7 → j < 4 → q i ≠ q2 j) : ∀ (k : Nat) (x : Nat × va_E), (xw q d w pr dr kl fl wt cn ds kc fc sv)[k]? = some x → ∀ j, j < 4 → x.1 ≠ q2 j := by
  intro k x hk j hj e
  obtain ⟨a1, a2⟩ := x_addr hk
  exact h k j a1 hj (by rw [← a2, e])
/-- what stays all through the law's loop -/
def LC (p : Program) (s : State) (m : MethodId) (meth : Method) (cd : Code) (b L : Nat) (xs : Nat → Int32) (D : va_G) (q q2 : Nat → Nat) (d d2 : Nat → ClassId) : Prop :=
  p.tables.exec = Jvm.exec ∧ cd.code = code ∧ meth.sig.returnType = ret ∧ cd.maxLocals = 4 ∧ s.vm.findClass R_law = some m.cls ∧ (∀ w ∈ lw_all, w.before #[Value.ref b] s = true) ∧ va_X b L xs s s.heap ∧ b < s.heap.size ∧ meth.locks = false ∧ L ≤ 192 ∧ va_K D vwCl (xt d) s ∧ va_K D vwCl (mt d2) s ∧ gJ 7 q ∧ gJ 4 q2 ∧ (∀ i j, i < 7 → j < 4 → q i ≠ q2 j) ∧ (∀ i, i < 7 → s.heap.size ≤ q i) ∧ ∀ j, j < 4 → s.heap.size ≤ q2 j
theorem head_in {i L : Nat} (hL : L ≤ 192) (hi : i ≤ L) (h : ¬ Int32.ofNat L - 3 < nI i) : i + 2 < L := by
  rcases Nat.lt_or_ge L 3 with z | z
  · have h1 : nI L - nI 3 < 0 := pk_sneg (by decide) z
    exact absurd (Int32.lt_of_lt_of_le h1 (nI_pos' (n := i) (by omega))) h
  · have h1 : nI L - nI 3 = nI (L - 3) := pk_sub z
    have h2 : ¬ nI (L - 3) < nI i := by rw [← h1]; exact h
    rw [nI_ltI (by omega) (by omega)] at h2
    omega
theorem sw_out : ∀ j, j < 32 → 19 ≤ j → (18 : Int) < (nI j).toInt := by decide +kernel
theorem sw_in (j : Nat) (hj : j < 32) : ¬ (nI j).toInt < 0 ∧ ((nI j).toInt - 0).toNat = j := by
  rw [nI_toInt (by omega)]
  omega
end
section
/-! the cases of the law: rows printed by gen/m_l.py -/
set_option maxRecDepth 100000

set_option maxHeartbeats 4000000 in
theorem law_literal {p : Program} {l : Launch} {e : Env} {s : State} {m : MethodId} {below : List Frame} {meth : Method} {cd : Code} {b L : Nat} {xs : Nat → Int32} {D : va_G} {q q2 : Nat → Nat} {d d2 : Nat → ClassId} {H : Heap} {locs : List Loc} {ls : Array Slot} {Q : State → Prop} {i : Nat} {x : XS} {y : MS} (C : LC p s m meth cd b L xs D q q2 d d2) (hi : i + 2 < L) (hR : Rel x y) (hPx : va_P D vwCl (xwS q d x) H) (hPm : va_P D vwCl (mwS q2 d2 y) H) (hS : va_S (fun a => s.heap.size ≤ a) s.heap H locs) (hl : lv_has ls 4 [(0, .ref b), (1, .ref (q 0)), (2, .ref (q2 0)), (3, .int (nI i))]) (kk : ∀ (x : XS) (y : MS) (H : Heap) (locs : List Loc), Rel x y → va_P D vwCl (xwS q d x) H → va_P D vwCl (mwS q2 d2 y) H → va_S (fun a => s.heap.size ≤ a) s.heap H locs → W p l e room_1 s m #[Value.ref b] below meth cd H locs 600000 7290000 Q (F0 m 481 ls [])) : W p l e room_1 s m #[Value.ref b] below meth cd H locs 600000 7290000 Q (F0 m 124 ls []) := by
  obtain ⟨hx, hb, hr, hml, hown, hts, hX, hbl, hlocks, hL, hKx, hKm, hqx, hqm, hsep, hax, ham⟩ := C
  obtain ⟨w, pr, dr, kl, fl, wt, c, nd, kc, fc, sv, lt, pm, ab, bb, rfl, rfl, hR⟩ := hR
  obtain ⟨hc9, hd, -, -, hsv⟩ := id hR
  have hnd := hd.1
  have hb1 := hd.2.1
  have hbA : ¬ (fun a : Nat => s.heap.size ≤ a) b := Nat.not_le.mpr hbl
  have hPx : va_P D vwCl (xw q d w pr dr kl fl wt (nI c) (nI nd) kc fc sv) H := hPx
  have hPm : va_P D vwCl (mw q2 d2 lt pm ab (nI bb) (nI c)) H := hPm
  have hown : s.vm.findClass "ConflictSetsLaw" = some m.cls := hown
  refine lv_aload_n hx hb dL_law_124 rfl (lv_at hl 1 rfl) ?_
  refine lv_aload_n hx hb dL_law_125 rfl (lv_at hl 0 rfl) ?_
  refine lv_iload_n hx hb dL_law_126 rfl (lv_at hl 3 rfl) ?_
  refine lv_iconst (v := 1) hx hb dL_law_127 (by decide) ?_
  refine lv_iadd hx hb dL_law_128 ?_
  refine g_tw (y := nI (i + 1)) (nI_add i 1) ?_
  refine l_sld hx hb hX hbl hbA hS (k := i + 1) (by omega) (by omega) dL_law_129 ?_
  refine g_callF (va_runV (As := [.int (xs (i + 1))]) (rest := []) ⟨hx, hb, hml, hown, hts⟩ (mX0_literal l D q d w pr dr kl fl wt c nd kc fc sv (xs (i + 1)) hqx hnd) (cwV 1 hts (lw_V q71 q72 q73 q26 q74) rfl rfl rfl (by decide +kernel) ⟨Nat.le_of_ble_eq_true rfl, Nat.le_of_ble_eq_true rfl⟩) (x_preV _ hKx hPx) rfl rfl hl.1 rfl (lv_room (Nat.le_of_ble_eq_true rfl)) dL_law_130 ⟨Nat.le_of_ble_eq_true rfl, Nat.le_of_ble_eq_true rfl⟩) hS hax hPm (sep_m hsep) (fun r u H locs hu hPx hPm hS => ?_)
  refine lv_aload_n hx hb dL_law_133 rfl (lv_at hl 2 rfl) ?_
  refine lv_aload_n hx hb dL_law_134 rfl (lv_at hl 0 rfl) ?_
  refine lv_iload_n hx hb dL_law_135 rfl (lv_at hl 3 rfl) ?_
  refine lv_iconst (v := 1) hx hb dL_law_136 (by decide) ?_
  refine lv_iadd hx hb dL_law_137 ?_
  refine g_tw (y := nI (i + 1)) (nI_add i 1) ?_
  refine l_sld hx hb hX hbl hbA hS (k := i + 1) (by omega) (by omega) dL_law_138 ?_
  refine g_callF (va_runV (As := [.int (xs (i + 1))]) (rest := [.int r]) ⟨hx, hb, hml, hown, hts⟩ (mX1_literal l D q2 d2 lt pm ab bb c (xs (i + 1)) hqm) (cwV 1 hts (lw_V q229 q230 q231 q27 q232) rfl rfl rfl (by decide +kernel) ⟨Nat.le_of_ble_eq_true rfl, Nat.le_of_ble_eq_true rfl⟩) (m_preV _ hKm hPm) rfl rfl hl.1 rfl (lv_room (Nat.le_of_ble_eq_true rfl)) dL_law_139 ⟨Nat.le_of_ble_eq_true rfl, Nat.le_of_ble_eq_true rfl⟩) hS ham hPx (sep_x hsep) (fun r' u' H locs hu' hPm hPx hS => ?_)
  obtain ⟨e1, hR'⟩ := pl_literal (wt := wt) (ab := ab) hR hu hu'
  exact lv_icmp_eq (tgt := 481) hx hb dL_law_142 (by decide) (fun _ => kk u u' H locs hR' hPx hPm hS) (fun h => absurd e1 h)
set_option maxHeartbeats 4000000 in
theorem law_add {p : Program} {l : Launch} {e : Env} {s : State} {m : MethodId} {below : List Frame} {meth : Method} {cd : Code} {b L : Nat} {xs : Nat → Int32} {D : va_G} {q q2 : Nat → Nat} {d d2 : Nat → ClassId} {H : Heap} {locs : List Loc} {ls : Array Slot} {Q : State → Prop} {i : Nat} {x : XS} {y : MS} (C : LC p s m meth cd b L xs D q q2 d d2) (hi : i + 2 < L) (hR : Rel x y) (hPx : va_P D vwCl (xwS q d x) H) (hPm : va_P D vwCl (mwS q2 d2 y) H) (hS : va_S (fun a => s.heap.size ≤ a) s.heap H locs) (hl : lv_has ls 4 [(0, .ref b), (1, .ref (q 0)), (2, .ref (q2 0)), (3, .int (nI i))]) (kk : ∀ (x : XS) (y : MS) (H : Heap) (locs : List Loc), Rel x y → va_P D vwCl (xwS q d x) H → va_P D vwCl (mwS q2 d2 y) H → va_S (fun a => s.heap.size ≤ a) s.heap H locs → W p l e room_1 s m #[Value.ref b] below meth cd H locs 600000 7290000 Q (F0 m 481 ls [])) : W p l e room_1 s m #[Value.ref b] below meth cd H locs 600000 7290000 Q (F0 m 147 ls []) := by
  obtain ⟨hx, hb, hr, hml, hown, hts, hX, hbl, hlocks, hL, hKx, hKm, hqx, hqm, hsep, hax, ham⟩ := C
  obtain ⟨w, pr, dr, kl, fl, wt, c, nd, kc, fc, sv, lt, pm, ab, bb, rfl, rfl, hR⟩ := hR
  obtain ⟨hc9, hd, -, -, hsv⟩ := id hR
  have hnd := hd.1
  have hb1 := hd.2.1
  have hbA : ¬ (fun a : Nat => s.heap.size ≤ a) b := Nat.not_le.mpr hbl
  have hPx : va_P D vwCl (xw q d w pr dr kl fl wt (nI c) (nI nd) kc fc sv) H := hPx
  have hPm : va_P D vwCl (mw q2 d2 lt pm ab (nI bb) (nI c)) H := hPm
  have hown : s.vm.findClass "ConflictSetsLaw" = some m.cls := hown
  refine lv_aload_n hx hb dL_law_147 rfl (lv_at hl 1 rfl) ?_
  refine g_callF (va_runV (As := []) (rest := []) ⟨hx, hb, hml, hown, hts⟩ (mX0_add l D q d w pr dr kl fl wt c nd kc fc sv hqx hnd hc9) (cwV 0 hts (lw_V q75 q76 q77 q26 q78) rfl rfl rfl (by decide +kernel) ⟨Nat.le_of_ble_eq_true rfl, Nat.le_of_ble_eq_true rfl⟩) (x_preV _ hKx hPx) rfl rfl hl.1 rfl (lv_room (Nat.le_of_ble_eq_true rfl)) dL_law_148 ⟨Nat.le_of_ble_eq_true rfl, Nat.le_of_ble_eq_true rfl⟩) hS hax hPm (sep_m hsep) (fun r u H locs hu hPx hPm hS => ?_)
  refine lv_aload_n hx hb dL_law_151 rfl (lv_at hl 2 rfl) ?_
  refine g_callF (va_runV (As := []) (rest := [.int r]) ⟨hx, hb, hml, hown, hts⟩ (mX1_add l D q2 d2 lt pm ab bb c hqm hb1 hc9) (cwV 0 hts (lw_V q237 q238 q239 q27 q240) rfl rfl rfl (by decide +kernel) ⟨Nat.le_of_ble_eq_true rfl, Nat.le_of_ble_eq_true rfl⟩) (m_preV _ hKm hPm) rfl rfl hl.1 rfl (lv_room (Nat.le_of_ble_eq_true rfl)) dL_law_152 ⟨Nat.le_of_ble_eq_true rfl, Nat.le_of_ble_eq_true rfl⟩) hS ham hPx (sep_x hsep) (fun r' u' H locs hu' hPm hPx hS => ?_)
  obtain ⟨e1, hR'⟩ := pl_add (wt := wt) (ab := ab) hR hu hu'
  exact lv_icmp_eq (tgt := 481) hx hb dL_law_155 (by decide) (fun _ => kk u u' H locs hR' hPx hPm hS) (fun h => absurd e1 h)
set_option maxHeartbeats 4000000 in
theorem law_clear {p : Program} {l : Launch} {e : Env} {s : State} {m : MethodId} {below : List Frame} {meth : Method} {cd : Code} {b L : Nat} {xs : Nat → Int32} {D : va_G} {q q2 : Nat → Nat} {d d2 : Nat → ClassId} {H : Heap} {locs : List Loc} {ls : Array Slot} {Q : State → Prop} {i : Nat} {x : XS} {y : MS} (C : LC p s m meth cd b L xs D q q2 d d2) (hi : i + 2 < L) (hR : Rel x y) (hPx : va_P D vwCl (xwS q d x) H) (hPm : va_P D vwCl (mwS q2 d2 y) H) (hS : va_S (fun a => s.heap.size ≤ a) s.heap H locs) (hl : lv_has ls 4 [(0, .ref b), (1, .ref (q 0)), (2, .ref (q2 0)), (3, .int (nI i))]) (kk : ∀ (x : XS) (y : MS) (H : Heap) (locs : List Loc), Rel x y → va_P D vwCl (xwS q d x) H → va_P D vwCl (mwS q2 d2 y) H → va_S (fun a => s.heap.size ≤ a) s.heap H locs → W p l e room_1 s m #[Value.ref b] below meth cd H locs 600000 7290000 Q (F0 m 481 ls [])) : W p l e room_1 s m #[Value.ref b] below meth cd H locs 600000 7290000 Q (F0 m 160 ls []) := by
  obtain ⟨hx, hb, hr, hml, hown, hts, hX, hbl, hlocks, hL, hKx, hKm, hqx, hqm, hsep, hax, ham⟩ := C
  obtain ⟨w, pr, dr, kl, fl, wt, c, nd, kc, fc, sv, lt, pm, ab, bb, rfl, rfl, hR⟩ := hR
  obtain ⟨hc9, hd, -, -, hsv⟩ := id hR
  have hnd := hd.1
  have hb1 := hd.2.1
  have hbA : ¬ (fun a : Nat => s.heap.size ≤ a) b := Nat.not_le.mpr hbl
  have hPx : va_P D vwCl (xw q d w pr dr kl fl wt (nI c) (nI nd) kc fc sv) H := hPx
  have hPm : va_P D vwCl (mw q2 d2 lt pm ab (nI bb) (nI c)) H := hPm
  have hown : s.vm.findClass "ConflictSetsLaw" = some m.cls := hown
  refine lv_aload_n hx hb dL_law_160 rfl (lv_at hl 1 rfl) ?_
  refine g_callF (va_runV (As := []) (rest := []) ⟨hx, hb, hml, hown, hts⟩ (mX0_clear l D q d w pr dr kl fl wt c (nI nd) kc fc sv hqx) (cwV 0 hts (lw_V q82 q83 q84 q26 q85) rfl rfl rfl (by decide +kernel) ⟨Nat.le_of_ble_eq_true rfl, Nat.le_of_ble_eq_true rfl⟩) (x_preV _ hKx hPx) rfl rfl hl.1 rfl (lv_room (Nat.le_of_ble_eq_true rfl)) dL_law_161 ⟨Nat.le_of_ble_eq_true rfl, Nat.le_of_ble_eq_true rfl⟩) hS hax hPm (sep_m hsep) (fun r u H locs hu hPx hPm hS => ?_)
  refine lv_aload_n hx hb dL_law_164 rfl (lv_at hl 2 rfl) ?_
  refine g_callF (va_runV (As := []) (rest := [.int r]) ⟨hx, hb, hml, hown, hts⟩ (mX1_clear l D q2 d2 lt pm ab (nI bb) c hqm) (cwV 0 hts (lw_V q241 q242 q243 q27 q244) rfl rfl rfl (by decide +kernel) ⟨Nat.le_of_ble_eq_true rfl, Nat.le_of_ble_eq_true rfl⟩) (m_preV _ hKm hPm) rfl rfl hl.1 rfl (lv_room (Nat.le_of_ble_eq_true rfl)) dL_law_165 ⟨Nat.le_of_ble_eq_true rfl, Nat.le_of_ble_eq_true rfl⟩) hS ham hPx (sep_x hsep) (fun r' u' H locs hu' hPm hPx hS => ?_)
  obtain ⟨e1, hR'⟩ := pl_clear (wt := wt) (ab := ab) hR hu hu'
  exact lv_icmp_eq (tgt := 481) hx hb dL_law_168 (by decide) (fun _ => kk u u' H locs hR' hPx hPm hS) (fun h => absurd e1 h)
set_option maxHeartbeats 4000000 in
theorem law_remove {p : Program} {l : Launch} {e : Env} {s : State} {m : MethodId} {below : List Frame} {meth : Method} {cd : Code} {b L : Nat} {xs : Nat → Int32} {D : va_G} {q q2 : Nat → Nat} {d d2 : Nat → ClassId} {H : Heap} {locs : List Loc} {ls : Array Slot} {Q : State → Prop} {i : Nat} {x : XS} {y : MS} (C : LC p s m meth cd b L xs D q q2 d d2) (hi : i + 2 < L) (hR : Rel x y) (hPx : va_P D vwCl (xwS q d x) H) (hPm : va_P D vwCl (mwS q2 d2 y) H) (hS : va_S (fun a => s.heap.size ≤ a) s.heap H locs) (hl : lv_has ls 4 [(0, .ref b), (1, .ref (q 0)), (2, .ref (q2 0)), (3, .int (nI i))]) (kk : ∀ (x : XS) (y : MS) (H : Heap) (locs : List Loc), Rel x y → va_P D vwCl (xwS q d x) H → va_P D vwCl (mwS q2 d2 y) H → va_S (fun a => s.heap.size ≤ a) s.heap H locs → W p l e room_1 s m #[Value.ref b] below meth cd H locs 600000 7290000 Q (F0 m 481 ls [])) : W p l e room_1 s m #[Value.ref b] below meth cd H locs 600000 7290000 Q (F0 m 173 ls []) := by
  obtain ⟨hx, hb, hr, hml, hown, hts, hX, hbl, hlocks, hL, hKx, hKm, hqx, hqm, hsep, hax, ham⟩ := C
  obtain ⟨w, pr, dr, kl, fl, wt, c, nd, kc, fc, sv, lt, pm, ab, bb, rfl, rfl, hR⟩ := hR
  obtain ⟨hc9, hd, -, -, hsv⟩ := id hR
  have hnd := hd.1
  have hb1 := hd.2.1
  have hbA : ¬ (fun a : Nat => s.heap.size ≤ a) b := Nat.not_le.mpr hbl
  have hPx : va_P D vwCl (xw q d w pr dr kl fl wt (nI c) (nI nd) kc fc sv) H := hPx
  have hPm : va_P D vwCl (mw q2 d2 lt pm ab (nI bb) (nI c)) H := hPm
  have hown : s.vm.findClass "ConflictSetsLaw" = some m.cls := hown
  refine lv_aload_n hx hb dL_law_173 rfl (lv_at hl 1 rfl) ?_
  refine lv_aload_n hx hb dL_law_174 rfl (lv_at hl 0 rfl) ?_
  refine lv_iload_n hx hb dL_law_175 rfl (lv_at hl 3 rfl) ?_
  refine lv_iconst (v := 1) hx hb dL_law_176 (by decide) ?_
  refine lv_iadd hx hb dL_law_177 ?_
  refine g_tw (y := nI (i + 1)) (nI_add i 1) ?_
  refine l_sld hx hb hX hbl hbA hS (k := i + 1) (by omega) (by omega) dL_law_178 ?_
  refine g_callF (va_runV (As := [.int (xs (i + 1))]) (rest := []) ⟨hx, hb, hml, hown, hts⟩ (mX0_remove l D q d w pr dr kl fl wt c (nI nd) kc fc sv (xs (i + 1)) hqx hc9) (cwV 1 hts (lw_V q86 q87 q88 q26 q89) rfl rfl rfl (by decide +kernel) ⟨Nat.le_of_ble_eq_true rfl, Nat.le_of_ble_eq_true rfl⟩) (x_preV _ hKx hPx) rfl rfl hl.1 rfl (lv_room (Nat.le_of_ble_eq_true rfl)) dL_law_179 ⟨Nat.le_of_ble_eq_true rfl, Nat.le_of_ble_eq_true rfl⟩) hS hax hPm (sep_m hsep) (fun r u H locs hu hPx hPm hS => ?_)
  refine lv_aload_n hx hb dL_law_182 rfl (lv_at hl 2 rfl) ?_
  refine lv_aload_n hx hb dL_law_183 rfl (lv_at hl 0 rfl) ?_
  refine lv_iload_n hx hb dL_law_184 rfl (lv_at hl 3 rfl) ?_
  refine lv_iconst (v := 1) hx hb dL_law_185 (by decide) ?_
  refine lv_iadd hx hb dL_law_186 ?_
  refine g_tw (y := nI (i + 1)) (nI_add i 1) ?_
  refine l_sld hx hb hX hbl hbA hS (k := i + 1) (by omega) (by omega) dL_law_187 ?_
  refine g_callF (va_runV (As := [.int (xs (i + 1))]) (rest := [.int r]) ⟨hx, hb, hml, hown, hts⟩ (mX1_remove l D q2 d2 lt pm ab (nI bb) c (xs (i + 1)) hqm hc9) (cwV 1 hts (lw_V q245 q246 q247 q27 q248) rfl rfl rfl (by decide +kernel) ⟨Nat.le_of_ble_eq_true rfl, Nat.le_of_ble_eq_true rfl⟩) (m_preV _ hKm hPm) rfl rfl hl.1 rfl (lv_room (Nat.le_of_ble_eq_true rfl)) dL_law_188 ⟨Nat.le_of_ble_eq_true rfl, Nat.le_of_ble_eq_true rfl⟩) hS ham hPx (sep_x hsep) (fun r' u' H locs hu' hPm hPx hS => ?_)
  obtain ⟨e1, hR'⟩ := pl_remove (wt := wt) (ab := ab) hR hu hu'
  exact lv_icmp_eq (tgt := 481) hx hb dL_law_191 (by decide) (fun _ => kk u u' H locs hR' hPx hPm hS) (fun h => absurd e1 h)
set_option maxHeartbeats 4000000 in
theorem law_price {p : Program} {l : Launch} {e : Env} {s : State} {m : MethodId} {below : List Frame} {meth : Method} {cd : Code} {b L : Nat} {xs : Nat → Int32} {D : va_G} {q q2 : Nat → Nat} {d d2 : Nat → ClassId} {H : Heap} {locs : List Loc} {ls : Array Slot} {Q : State → Prop} {i : Nat} {x : XS} {y : MS} (C : LC p s m meth cd b L xs D q q2 d d2) (hi : i + 2 < L) (hR : Rel x y) (hPx : va_P D vwCl (xwS q d x) H) (hPm : va_P D vwCl (mwS q2 d2 y) H) (hS : va_S (fun a => s.heap.size ≤ a) s.heap H locs) (hl : lv_has ls 4 [(0, .ref b), (1, .ref (q 0)), (2, .ref (q2 0)), (3, .int (nI i))]) (kk : ∀ (x : XS) (y : MS) (H : Heap) (locs : List Loc), Rel x y → va_P D vwCl (xwS q d x) H → va_P D vwCl (mwS q2 d2 y) H → va_S (fun a => s.heap.size ≤ a) s.heap H locs → W p l e room_1 s m #[Value.ref b] below meth cd H locs 600000 7290000 Q (F0 m 481 ls [])) : W p l e room_1 s m #[Value.ref b] below meth cd H locs 600000 7290000 Q (F0 m 196 ls []) := by
  obtain ⟨hx, hb, hr, hml, hown, hts, hX, hbl, hlocks, hL, hKx, hKm, hqx, hqm, hsep, hax, ham⟩ := C
  obtain ⟨w, pr, dr, kl, fl, wt, c, nd, kc, fc, sv, lt, pm, ab, bb, rfl, rfl, hR⟩ := hR
  obtain ⟨hc9, hd, -, -, hsv⟩ := id hR
  have hnd := hd.1
  have hb1 := hd.2.1
  have hbA : ¬ (fun a : Nat => s.heap.size ≤ a) b := Nat.not_le.mpr hbl
  have hPx : va_P D vwCl (xw q d w pr dr kl fl wt (nI c) (nI nd) kc fc sv) H := hPx
  have hPm : va_P D vwCl (mw q2 d2 lt pm ab (nI bb) (nI c)) H := hPm
  have hown : s.vm.findClass "ConflictSetsLaw" = some m.cls := hown
  refine lv_aload_n hx hb dL_law_196 rfl (lv_at hl 1 rfl) ?_
  refine lv_aload_n hx hb dL_law_197 rfl (lv_at hl 0 rfl) ?_
  refine lv_iload_n hx hb dL_law_198 rfl (lv_at hl 3 rfl) ?_
  refine lv_iconst (v := 1) hx hb dL_law_199 (by decide) ?_
  refine lv_iadd hx hb dL_law_200 ?_
  refine g_tw (y := nI (i + 1)) (nI_add i 1) ?_
  refine l_sld hx hb hX hbl hbA hS (k := i + 1) (by omega) (by omega) dL_law_201 ?_
  refine lv_aload_n hx hb dL_law_202 rfl (lv_at hl 0 rfl) ?_
  refine lv_iload_n hx hb dL_law_203 rfl (lv_at hl 3 rfl) ?_
  refine lv_iconst (v := 2) hx hb dL_law_204 (by decide) ?_
  refine lv_iadd hx hb dL_law_205 ?_
  refine g_tw (y := nI (i + 2)) (nI_add i 2) ?_
  refine l_sld hx hb hX hbl hbA hS (k := i + 2) (by omega) (by omega) dL_law_206 ?_
  refine g_callF (va_runV (As := [.int (xs (i + 1)), .int (xs (i + 2))]) (rest := []) ⟨hx, hb, hml, hown, hts⟩ (mX0_price l D q d w pr dr kl fl wt c (nI nd) kc fc sv (xs (i + 1)) (xs (i + 2)) hqx hc9) (cwV 2 hts (lw_V q94 q95 q96 q26 q97) rfl rfl rfl (by decide +kernel) ⟨Nat.le_of_ble_eq_true rfl, Nat.le_of_ble_eq_true rfl⟩) (x_preV _ hKx hPx) rfl rfl hl.1 rfl (lv_room (Nat.le_of_ble_eq_true rfl)) dL_law_207 ⟨Nat.le_of_ble_eq_true rfl, Nat.le_of_ble_eq_true rfl⟩) hS hax hPm (sep_m hsep) (fun r u H locs hu hPx hPm hS => ?_)
  refine lv_aload_n hx hb dL_law_210 rfl (lv_at hl 2 rfl) ?_
  refine lv_aload_n hx hb dL_law_211 rfl (lv_at hl 0 rfl) ?_
  refine lv_iload_n hx hb dL_law_212 rfl (lv_at hl 3 rfl) ?_
  refine lv_iconst (v := 1) hx hb dL_law_213 (by decide) ?_
  refine lv_iadd hx hb dL_law_214 ?_
  refine g_tw (y := nI (i + 1)) (nI_add i 1) ?_
  refine l_sld hx hb hX hbl hbA hS (k := i + 1) (by omega) (by omega) dL_law_215 ?_
  refine lv_aload_n hx hb dL_law_216 rfl (lv_at hl 0 rfl) ?_
  refine lv_iload_n hx hb dL_law_217 rfl (lv_at hl 3 rfl) ?_
  refine lv_iconst (v := 2) hx hb dL_law_218 (by decide) ?_
  refine lv_iadd hx hb dL_law_219 ?_
  refine g_tw (y := nI (i + 2)) (nI_add i 2) ?_
  refine l_sld hx hb hX hbl hbA hS (k := i + 2) (by omega) (by omega) dL_law_220 ?_
  refine g_callF (va_runV (As := [.int (xs (i + 1)), .int (xs (i + 2))]) (rest := [.int r]) ⟨hx, hb, hml, hown, hts⟩ (mX1_price l D q2 d2 lt pm ab (nI bb) c (xs (i + 1)) (xs (i + 2)) hqm hc9) (cwV 2 hts (lw_V q253 q254 q255 q27 q256) rfl rfl rfl (by decide +kernel) ⟨Nat.le_of_ble_eq_true rfl, Nat.le_of_ble_eq_true rfl⟩) (m_preV _ hKm hPm) rfl rfl hl.1 rfl (lv_room (Nat.le_of_ble_eq_true rfl)) dL_law_221 ⟨Nat.le_of_ble_eq_true rfl, Nat.le_of_ble_eq_true rfl⟩) hS ham hPx (sep_x hsep) (fun r' u' H locs hu' hPm hPx hS => ?_)
  obtain ⟨e1, hR'⟩ := pl_price (wt := wt) (ab := ab) hR hu hu'
  exact lv_icmp_eq (tgt := 481) hx hb dL_law_224 (by decide) (fun _ => kk u u' H locs hR' hPx hPm hS) (fun h => absurd e1 h)
set_option maxHeartbeats 4000000 in
theorem law_conditions {p : Program} {l : Launch} {e : Env} {s : State} {m : MethodId} {below : List Frame} {meth : Method} {cd : Code} {b L : Nat} {xs : Nat → Int32} {D : va_G} {q q2 : Nat → Nat} {d d2 : Nat → ClassId} {H : Heap} {locs : List Loc} {ls : Array Slot} {Q : State → Prop} {i : Nat} {x : XS} {y : MS} (C : LC p s m meth cd b L xs D q q2 d d2) (hi : i + 2 < L) (hR : Rel x y) (hPx : va_P D vwCl (xwS q d x) H) (hPm : va_P D vwCl (mwS q2 d2 y) H) (hS : va_S (fun a => s.heap.size ≤ a) s.heap H locs) (hl : lv_has ls 4 [(0, .ref b), (1, .ref (q 0)), (2, .ref (q2 0)), (3, .int (nI i))]) (kk : ∀ (x : XS) (y : MS) (H : Heap) (locs : List Loc), Rel x y → va_P D vwCl (xwS q d x) H → va_P D vwCl (mwS q2 d2 y) H → va_S (fun a => s.heap.size ≤ a) s.heap H locs → W p l e room_1 s m #[Value.ref b] below meth cd H locs 600000 7290000 Q (F0 m 481 ls [])) : W p l e room_1 s m #[Value.ref b] below meth cd H locs 600000 7290000 Q (F0 m 229 ls []) := by
  obtain ⟨hx, hb, hr, hml, hown, hts, hX, hbl, hlocks, hL, hKx, hKm, hqx, hqm, hsep, hax, ham⟩ := C
  obtain ⟨w, pr, dr, kl, fl, wt, c, nd, kc, fc, sv, lt, pm, ab, bb, rfl, rfl, hR⟩ := hR
  obtain ⟨hc9, hd, -, -, hsv⟩ := id hR
  have hnd := hd.1
  have hb1 := hd.2.1
  have hbA : ¬ (fun a : Nat => s.heap.size ≤ a) b := Nat.not_le.mpr hbl
  have hPx : va_P D vwCl (xw q d w pr dr kl fl wt (nI c) (nI nd) kc fc sv) H := hPx
  have hPm : va_P D vwCl (mw q2 d2 lt pm ab (nI bb) (nI c)) H := hPm
  have hown : s.vm.findClass "ConflictSetsLaw" = some m.cls := hown
  refine lv_aload_n hx hb dL_law_229 rfl (lv_at hl 1 rfl) ?_
  refine g_callR (W.runV (As := []) (rest := []) ⟨hx, hb, hml, hown, hts⟩ (mX0_conditions l D q d w pr dr kl fl wt c (nI nd) kc fc sv) (cwV 0 hts (lw_V q98 q99 q100 q26 q101) rfl rfl rfl (by decide +kernel) ⟨Nat.le_of_ble_eq_true rfl, Nat.le_of_ble_eq_true rfl⟩) (x_preV _ hKx hPx) rfl rfl hl.1 rfl (lv_room (Nat.le_of_ble_eq_true rfl)) dL_law_230 ⟨Nat.le_of_ble_eq_true rfl, Nat.le_of_ble_eq_true rfl⟩) ?_
  refine lv_aload_n hx hb dL_law_233 rfl (lv_at hl 2 rfl) ?_
  refine g_callR (W.runV (As := []) (rest := [.int _]) ⟨hx, hb, hml, hown, hts⟩ (mX1_conditions l D q2 d2 lt pm ab (nI bb) c) (cwV 0 hts (lw_V q257 q258 q259 q27 q260) rfl rfl rfl (by decide +kernel) ⟨Nat.le_of_ble_eq_true rfl, Nat.le_of_ble_eq_true rfl⟩) (m_preV _ hKm hPm) rfl rfl hl.1 rfl (lv_room (Nat.le_of_ble_eq_true rfl)) dL_law_234 ⟨Nat.le_of_ble_eq_true rfl, Nat.le_of_ble_eq_true rfl⟩) ?_
  exact lv_icmp_eq (tgt := 481) hx hb dL_law_237 (by decide) (fun _ => kk _ _ H locs (relI hR) hPx hPm hS) (fun h => absurd (pl_conditions hR) h)
set_option maxHeartbeats 4000000 in
theorem law_possible {p : Program} {l : Launch} {e : Env} {s : State} {m : MethodId} {below : List Frame} {meth : Method} {cd : Code} {b L : Nat} {xs : Nat → Int32} {D : va_G} {q q2 : Nat → Nat} {d d2 : Nat → ClassId} {H : Heap} {locs : List Loc} {ls : Array Slot} {Q : State → Prop} {i : Nat} {x : XS} {y : MS} (C : LC p s m meth cd b L xs D q q2 d d2) (hi : i + 2 < L) (hR : Rel x y) (hPx : va_P D vwCl (xwS q d x) H) (hPm : va_P D vwCl (mwS q2 d2 y) H) (hS : va_S (fun a => s.heap.size ≤ a) s.heap H locs) (hl : lv_has ls 4 [(0, .ref b), (1, .ref (q 0)), (2, .ref (q2 0)), (3, .int (nI i))]) (kk : ∀ (x : XS) (y : MS) (H : Heap) (locs : List Loc), Rel x y → va_P D vwCl (xwS q d x) H → va_P D vwCl (mwS q2 d2 y) H → va_S (fun a => s.heap.size ≤ a) s.heap H locs → W p l e room_1 s m #[Value.ref b] below meth cd H locs 600000 7290000 Q (F0 m 481 ls [])) : W p l e room_1 s m #[Value.ref b] below meth cd H locs 600000 7290000 Q (F0 m 242 ls []) := by
  obtain ⟨hx, hb, hr, hml, hown, hts, hX, hbl, hlocks, hL, hKx, hKm, hqx, hqm, hsep, hax, ham⟩ := C
  obtain ⟨w, pr, dr, kl, fl, wt, c, nd, kc, fc, sv, lt, pm, ab, bb, rfl, rfl, hR⟩ := hR
  obtain ⟨hc9, hd, -, -, hsv⟩ := id hR
  have hnd := hd.1
  have hb1 := hd.2.1
  have hbA : ¬ (fun a : Nat => s.heap.size ≤ a) b := Nat.not_le.mpr hbl
  have hPx : va_P D vwCl (xw q d w pr dr kl fl wt (nI c) (nI nd) kc fc sv) H := hPx
  have hPm : va_P D vwCl (mw q2 d2 lt pm ab (nI bb) (nI c)) H := hPm
  have hown : s.vm.findClass "ConflictSetsLaw" = some m.cls := hown
  refine lv_aload_n hx hb dL_law_242 rfl (lv_at hl 1 rfl) ?_
  refine lv_aload_n hx hb dL_law_243 rfl (lv_at hl 0 rfl) ?_
  refine lv_iload_n hx hb dL_law_244 rfl (lv_at hl 3 rfl) ?_
  refine lv_iconst (v := 1) hx hb dL_law_245 (by decide) ?_
  refine lv_iadd hx hb dL_law_246 ?_
  refine g_tw (y := nI (i + 1)) (nI_add i 1) ?_
  refine l_sld hx hb hX hbl hbA hS (k := i + 1) (by omega) (by omega) dL_law_247 ?_
  refine g_callR (W.runV (As := [.int (xs (i + 1))]) (rest := []) ⟨hx, hb, hml, hown, hts⟩ (mX0_possible l D q d w pr dr kl fl wt c (nI nd) kc fc sv (xs (i + 1)) hc9) (cwV 1 hts (lw_V q102 q103 q104 q26 q105) rfl rfl rfl (by decide +kernel) ⟨Nat.le_of_ble_eq_true rfl, Nat.le_of_ble_eq_true rfl⟩) (x_preV _ hKx hPx) rfl rfl hl.1 rfl (lv_room (Nat.le_of_ble_eq_true rfl)) dL_law_248 ⟨Nat.le_of_ble_eq_true rfl, Nat.le_of_ble_eq_true rfl⟩) ?_
  refine lv_aload_n hx hb dL_law_251 rfl (lv_at hl 2 rfl) ?_
  refine lv_aload_n hx hb dL_law_252 rfl (lv_at hl 0 rfl) ?_
  refine lv_iload_n hx hb dL_law_253 rfl (lv_at hl 3 rfl) ?_
  refine lv_iconst (v := 1) hx hb dL_law_254 (by decide) ?_
  refine lv_iadd hx hb dL_law_255 ?_
  refine g_tw (y := nI (i + 1)) (nI_add i 1) ?_
  refine l_sld hx hb hX hbl hbA hS (k := i + 1) (by omega) (by omega) dL_law_256 ?_
  refine g_callR (W.runV (As := [.int (xs (i + 1))]) (rest := [.int _]) ⟨hx, hb, hml, hown, hts⟩ (mX1_possible l D q2 d2 lt pm ab (nI bb) c (xs (i + 1)) hc9) (cwV 1 hts (lw_V q261 q262 q263 q27 q264) rfl rfl rfl (by decide +kernel) ⟨Nat.le_of_ble_eq_true rfl, Nat.le_of_ble_eq_true rfl⟩) (m_preV _ hKm hPm) rfl rfl hl.1 rfl (lv_room (Nat.le_of_ble_eq_true rfl)) dL_law_257 ⟨Nat.le_of_ble_eq_true rfl, Nat.le_of_ble_eq_true rfl⟩) ?_
  exact lv_icmp_eq (tgt := 481) hx hb dL_law_260 (by decide) (fun _ => kk _ _ H locs (relI hR) hPx hPm hS) (fun h => absurd (pl_possible hR) h)
set_option maxHeartbeats 4000000 in
theorem law_model {p : Program} {l : Launch} {e : Env} {s : State} {m : MethodId} {below : List Frame} {meth : Method} {cd : Code} {b L : Nat} {xs : Nat → Int32} {D : va_G} {q q2 : Nat → Nat} {d d2 : Nat → ClassId} {H : Heap} {locs : List Loc} {ls : Array Slot} {Q : State → Prop} {i : Nat} {x : XS} {y : MS} (C : LC p s m meth cd b L xs D q q2 d d2) (hi : i + 2 < L) (hR : Rel x y) (hPx : va_P D vwCl (xwS q d x) H) (hPm : va_P D vwCl (mwS q2 d2 y) H) (hS : va_S (fun a => s.heap.size ≤ a) s.heap H locs) (hl : lv_has ls 4 [(0, .ref b), (1, .ref (q 0)), (2, .ref (q2 0)), (3, .int (nI i))]) (kk : ∀ (x : XS) (y : MS) (H : Heap) (locs : List Loc), Rel x y → va_P D vwCl (xwS q d x) H → va_P D vwCl (mwS q2 d2 y) H → va_S (fun a => s.heap.size ≤ a) s.heap H locs → W p l e room_1 s m #[Value.ref b] below meth cd H locs 600000 7290000 Q (F0 m 481 ls [])) : W p l e room_1 s m #[Value.ref b] below meth cd H locs 600000 7290000 Q (F0 m 265 ls []) := by
  obtain ⟨hx, hb, hr, hml, hown, hts, hX, hbl, hlocks, hL, hKx, hKm, hqx, hqm, hsep, hax, ham⟩ := C
  obtain ⟨w, pr, dr, kl, fl, wt, c, nd, kc, fc, sv, lt, pm, ab, bb, rfl, rfl, hR⟩ := hR
  obtain ⟨hc9, hd, -, -, hsv⟩ := id hR
  have hnd := hd.1
  have hb1 := hd.2.1
  have hbA : ¬ (fun a : Nat => s.heap.size ≤ a) b := Nat.not_le.mpr hbl
  have hPx : va_P D vwCl (xw q d w pr dr kl fl wt (nI c) (nI nd) kc fc sv) H := hPx
  have hPm : va_P D vwCl (mw q2 d2 lt pm ab (nI bb) (nI c)) H := hPm
  have hown : s.vm.findClass "ConflictSetsLaw" = some m.cls := hown
  refine lv_aload_n hx hb dL_law_265 rfl (lv_at hl 1 rfl) ?_
  refine lv_aload_n hx hb dL_law_266 rfl (lv_at hl 0 rfl) ?_
  refine lv_iload_n hx hb dL_law_267 rfl (lv_at hl 3 rfl) ?_
  refine lv_iconst (v := 1) hx hb dL_law_268 (by decide) ?_
  refine lv_iadd hx hb dL_law_269 ?_
  refine g_tw (y := nI (i + 1)) (nI_add i 1) ?_
  refine l_sld hx hb hX hbl hbA hS (k := i + 1) (by omega) (by omega) dL_law_270 ?_
  refine g_callR (W.runV (As := [.int (xs (i + 1))]) (rest := []) ⟨hx, hb, hml, hown, hts⟩ (mX0_model l D q d w pr dr kl fl wt c (nI nd) kc fc sv (xs (i + 1)) hc9) (cwV 1 hts (lw_V q114 q115 q116 q26 q117) rfl rfl rfl (by decide +kernel) ⟨Nat.le_of_ble_eq_true rfl, Nat.le_of_ble_eq_true rfl⟩) (x_preV _ hKx hPx) rfl rfl hl.1 rfl (lv_room (Nat.le_of_ble_eq_true rfl)) dL_law_271 ⟨Nat.le_of_ble_eq_true rfl, Nat.le_of_ble_eq_true rfl⟩) ?_
  refine lv_aload_n hx hb dL_law_274 rfl (lv_at hl 2 rfl) ?_
  refine lv_aload_n hx hb dL_law_275 rfl (lv_at hl 0 rfl) ?_
  refine lv_iload_n hx hb dL_law_276 rfl (lv_at hl 3 rfl) ?_
  refine lv_iconst (v := 1) hx hb dL_law_277 (by decide) ?_
  refine lv_iadd hx hb dL_law_278 ?_
  refine g_tw (y := nI (i + 1)) (nI_add i 1) ?_
  refine l_sld hx hb hX hbl hbA hS (k := i + 1) (by omega) (by omega) dL_law_279 ?_
  refine g_callR (W.runV (As := [.int (xs (i + 1))]) (rest := [.int _]) ⟨hx, hb, hml, hown, hts⟩ (mX1_model l D q2 d2 lt pm ab (nI bb) c (xs (i + 1)) hc9) (cwV 1 hts (lw_V q281 q282 q283 q27 q284) rfl rfl rfl (by decide +kernel) ⟨Nat.le_of_ble_eq_true rfl, Nat.le_of_ble_eq_true rfl⟩) (m_preV _ hKm hPm) rfl rfl hl.1 rfl (lv_room (Nat.le_of_ble_eq_true rfl)) dL_law_280 ⟨Nat.le_of_ble_eq_true rfl, Nat.le_of_ble_eq_true rfl⟩) ?_
  exact lv_icmp_eq (tgt := 481) hx hb dL_law_283 (by decide) (fun _ => kk _ _ H locs (relI hR) hPx hPm hS) (fun h => absurd (pl_model hR) h)
set_option maxHeartbeats 4000000 in
theorem law_kernels {p : Program} {l : Launch} {e : Env} {s : State} {m : MethodId} {below : List Frame} {meth : Method} {cd : Code} {b L : Nat} {xs : Nat → Int32} {D : va_G} {q q2 : Nat → Nat} {d d2 : Nat → ClassId} {H : Heap} {locs : List Loc} {ls : Array Slot} {Q : State → Prop} {i : Nat} {x : XS} {y : MS} (C : LC p s m meth cd b L xs D q q2 d d2) (hi : i + 2 < L) (hR : Rel x y) (hPx : va_P D vwCl (xwS q d x) H) (hPm : va_P D vwCl (mwS q2 d2 y) H) (hS : va_S (fun a => s.heap.size ≤ a) s.heap H locs) (hl : lv_has ls 4 [(0, .ref b), (1, .ref (q 0)), (2, .ref (q2 0)), (3, .int (nI i))]) (kk : ∀ (x : XS) (y : MS) (H : Heap) (locs : List Loc), Rel x y → va_P D vwCl (xwS q d x) H → va_P D vwCl (mwS q2 d2 y) H → va_S (fun a => s.heap.size ≤ a) s.heap H locs → W p l e room_1 s m #[Value.ref b] below meth cd H locs 600000 7290000 Q (F0 m 481 ls [])) : W p l e room_1 s m #[Value.ref b] below meth cd H locs 600000 7290000 Q (F0 m 288 ls []) := by
  obtain ⟨hx, hb, hr, hml, hown, hts, hX, hbl, hlocks, hL, hKx, hKm, hqx, hqm, hsep, hax, ham⟩ := C
  obtain ⟨w, pr, dr, kl, fl, wt, c, nd, kc, fc, sv, lt, pm, ab, bb, rfl, rfl, hR⟩ := hR
  obtain ⟨hc9, hd, -, -, hsv⟩ := id hR
  have hnd := hd.1
  have hb1 := hd.2.1
  have hbA : ¬ (fun a : Nat => s.heap.size ≤ a) b := Nat.not_le.mpr hbl
  have hPx : va_P D vwCl (xw q d w pr dr kl fl wt (nI c) (nI nd) kc fc sv) H := hPx
  have hPm : va_P D vwCl (mw q2 d2 lt pm ab (nI bb) (nI c)) H := hPm
  have hown : s.vm.findClass "ConflictSetsLaw" = some m.cls := hown
  refine lv_aload_n hx hb dL_law_288 rfl (lv_at hl 1 rfl) ?_
  refine g_callF (va_runV (As := []) (rest := []) ⟨hx, hb, hml, hown, hts⟩ (mX0_kernels l D q d w pr dr kl fl wt c (nI nd) kc fc sv hqx hc9 hsv) (cwV 0 hts (lw_V q118 q119 q120 q26 q121) rfl rfl rfl (by decide +kernel) ⟨Nat.le_of_ble_eq_true rfl, Nat.le_of_ble_eq_true rfl⟩) (x_preV _ hKx hPx) rfl rfl hl.1 rfl (lv_room (Nat.le_of_ble_eq_true rfl)) dL_law_289 ⟨Nat.le_of_ble_eq_true rfl, Nat.le_of_ble_eq_true rfl⟩) hS hax hPm (sep_m hsep) (fun r u H locs hu hPx hPm hS => ?_)
  refine lv_aload_n hx hb dL_law_292 rfl (lv_at hl 2 rfl) ?_
  refine g_callF (va_runV (As := []) (rest := [.int r]) ⟨hx, hb, hml, hown, hts⟩ (mX1_kernels l D q2 d2 lt pm ab (nI bb) c hqm hc9) (cwV 0 hts (lw_V q285 q286 q287 q27 q288) rfl rfl rfl (by decide +kernel) ⟨Nat.le_of_ble_eq_true rfl, Nat.le_of_ble_eq_true rfl⟩) (m_preV _ hKm hPm) rfl rfl hl.1 rfl (lv_room (Nat.le_of_ble_eq_true rfl)) dL_law_293 ⟨Nat.le_of_ble_eq_true rfl, Nat.le_of_ble_eq_true rfl⟩) hS ham hPx (sep_x hsep) (fun r' u' H locs hu' hPm hPx hS => ?_)
  obtain ⟨e1, hR'⟩ := pl_kernels (wt := wt) (ab := ab) hR hu hu'
  exact lv_icmp_eq (tgt := 481) hx hb dL_law_296 (by decide) (fun _ => kk u u' H locs hR' hPx hPm hS) (fun h => absurd e1 h)
set_option maxHeartbeats 4000000 in
theorem law_kernel {p : Program} {l : Launch} {e : Env} {s : State} {m : MethodId} {below : List Frame} {meth : Method} {cd : Code} {b L : Nat} {xs : Nat → Int32} {D : va_G} {q q2 : Nat → Nat} {d d2 : Nat → ClassId} {H : Heap} {locs : List Loc} {ls : Array Slot} {Q : State → Prop} {i : Nat} {x : XS} {y : MS} (C : LC p s m meth cd b L xs D q q2 d d2) (hi : i + 2 < L) (hR : Rel x y) (hPx : va_P D vwCl (xwS q d x) H) (hPm : va_P D vwCl (mwS q2 d2 y) H) (hS : va_S (fun a => s.heap.size ≤ a) s.heap H locs) (hl : lv_has ls 4 [(0, .ref b), (1, .ref (q 0)), (2, .ref (q2 0)), (3, .int (nI i))]) (kk : ∀ (x : XS) (y : MS) (H : Heap) (locs : List Loc), Rel x y → va_P D vwCl (xwS q d x) H → va_P D vwCl (mwS q2 d2 y) H → va_S (fun a => s.heap.size ≤ a) s.heap H locs → W p l e room_1 s m #[Value.ref b] below meth cd H locs 600000 7290000 Q (F0 m 481 ls [])) : W p l e room_1 s m #[Value.ref b] below meth cd H locs 600000 7290000 Q (F0 m 301 ls []) := by
  obtain ⟨hx, hb, hr, hml, hown, hts, hX, hbl, hlocks, hL, hKx, hKm, hqx, hqm, hsep, hax, ham⟩ := C
  obtain ⟨w, pr, dr, kl, fl, wt, c, nd, kc, fc, sv, lt, pm, ab, bb, rfl, rfl, hR⟩ := hR
  obtain ⟨hc9, hd, -, -, hsv⟩ := id hR
  have hnd := hd.1
  have hb1 := hd.2.1
  have hbA : ¬ (fun a : Nat => s.heap.size ≤ a) b := Nat.not_le.mpr hbl
  have hPx : va_P D vwCl (xw q d w pr dr kl fl wt (nI c) (nI nd) kc fc sv) H := hPx
  have hPm : va_P D vwCl (mw q2 d2 lt pm ab (nI bb) (nI c)) H := hPm
  have hown : s.vm.findClass "ConflictSetsLaw" = some m.cls := hown
  refine lv_aload_n hx hb dL_law_301 rfl (lv_at hl 1 rfl) ?_
  refine lv_aload_n hx hb dL_law_302 rfl (lv_at hl 0 rfl) ?_
  refine lv_iload_n hx hb dL_law_303 rfl (lv_at hl 3 rfl) ?_
  refine lv_iconst (v := 1) hx hb dL_law_304 (by decide) ?_
  refine lv_iadd hx hb dL_law_305 ?_
  refine g_tw (y := nI (i + 1)) (nI_add i 1) ?_
  refine l_sld hx hb hX hbl hbA hS (k := i + 1) (by omega) (by omega) dL_law_306 ?_
  refine g_callF (va_runV (As := [.int (xs (i + 1))]) (rest := []) ⟨hx, hb, hml, hown, hts⟩ (mX0_kernel l D q d w pr dr kl fl wt c (nI nd) kc fc sv (xs (i + 1)) hqx hc9 hsv) (cwV 1 hts (lw_V q158 q159 q160 q26 q161) rfl rfl rfl (by decide +kernel) ⟨Nat.le_of_ble_eq_true rfl, Nat.le_of_ble_eq_true rfl⟩) (x_preV _ hKx hPx) rfl rfl hl.1 rfl (lv_room (Nat.le_of_ble_eq_true rfl)) dL_law_307 ⟨Nat.le_of_ble_eq_true rfl, Nat.le_of_ble_eq_true rfl⟩) hS hax hPm (sep_m hsep) (fun r u H locs hu hPx hPm hS => ?_)
  refine lv_aload_n hx hb dL_law_310 rfl (lv_at hl 2 rfl) ?_
  refine lv_aload_n hx hb dL_law_311 rfl (lv_at hl 0 rfl) ?_
  refine lv_iload_n hx hb dL_law_312 rfl (lv_at hl 3 rfl) ?_
  refine lv_iconst (v := 1) hx hb dL_law_313 (by decide) ?_
  refine lv_iadd hx hb dL_law_314 ?_
  refine g_tw (y := nI (i + 1)) (nI_add i 1) ?_
  refine l_sld hx hb hX hbl hbA hS (k := i + 1) (by omega) (by omega) dL_law_315 ?_
  refine g_callF (va_runV (As := [.int (xs (i + 1))]) (rest := [.int r]) ⟨hx, hb, hml, hown, hts⟩ (mX1_kernel l D q2 d2 lt pm ab (nI bb) c (xs (i + 1)) hqm hc9) (cwV 1 hts (lw_V q305 q306 q307 q27 q308) rfl rfl rfl (by decide +kernel) ⟨Nat.le_of_ble_eq_true rfl, Nat.le_of_ble_eq_true rfl⟩) (m_preV _ hKm hPm) rfl rfl hl.1 rfl (lv_room (Nat.le_of_ble_eq_true rfl)) dL_law_316 ⟨Nat.le_of_ble_eq_true rfl, Nat.le_of_ble_eq_true rfl⟩) hS ham hPx (sep_x hsep) (fun r' u' H locs hu' hPm hPx hS => ?_)
  obtain ⟨e1, hR'⟩ := pl_kernel (wt := wt) (ab := ab) hR hu hu'
  exact lv_icmp_eq (tgt := 481) hx hb dL_law_319 (by decide) (fun _ => kk u u' H locs hR' hPx hPm hS) (fun h => absurd e1 h)
set_option maxHeartbeats 4000000 in
theorem law_corrections {p : Program} {l : Launch} {e : Env} {s : State} {m : MethodId} {below : List Frame} {meth : Method} {cd : Code} {b L : Nat} {xs : Nat → Int32} {D : va_G} {q q2 : Nat → Nat} {d d2 : Nat → ClassId} {H : Heap} {locs : List Loc} {ls : Array Slot} {Q : State → Prop} {i : Nat} {x : XS} {y : MS} (C : LC p s m meth cd b L xs D q q2 d d2) (hi : i + 2 < L) (hR : Rel x y) (hPx : va_P D vwCl (xwS q d x) H) (hPm : va_P D vwCl (mwS q2 d2 y) H) (hS : va_S (fun a => s.heap.size ≤ a) s.heap H locs) (hl : lv_has ls 4 [(0, .ref b), (1, .ref (q 0)), (2, .ref (q2 0)), (3, .int (nI i))]) (kk : ∀ (x : XS) (y : MS) (H : Heap) (locs : List Loc), Rel x y → va_P D vwCl (xwS q d x) H → va_P D vwCl (mwS q2 d2 y) H → va_S (fun a => s.heap.size ≤ a) s.heap H locs → W p l e room_1 s m #[Value.ref b] below meth cd H locs 600000 7290000 Q (F0 m 481 ls [])) : W p l e room_1 s m #[Value.ref b] below meth cd H locs 600000 7290000 Q (F0 m 324 ls []) := by
  obtain ⟨hx, hb, hr, hml, hown, hts, hX, hbl, hlocks, hL, hKx, hKm, hqx, hqm, hsep, hax, ham⟩ := C
  obtain ⟨w, pr, dr, kl, fl, wt, c, nd, kc, fc, sv, lt, pm, ab, bb, rfl, rfl, hR⟩ := hR
  obtain ⟨hc9, hd, -, -, hsv⟩ := id hR
  have hnd := hd.1
  have hb1 := hd.2.1
  have hbA : ¬ (fun a : Nat => s.heap.size ≤ a) b := Nat.not_le.mpr hbl
  have hPx : va_P D vwCl (xw q d w pr dr kl fl wt (nI c) (nI nd) kc fc sv) H := hPx
  have hPm : va_P D vwCl (mw q2 d2 lt pm ab (nI bb) (nI c)) H := hPm
  have hown : s.vm.findClass "ConflictSetsLaw" = some m.cls := hown
  refine lv_aload_n hx hb dL_law_324 rfl (lv_at hl 1 rfl) ?_
  refine g_callF (va_runV (As := []) (rest := []) ⟨hx, hb, hml, hown, hts⟩ (mX0_corrections l D q d w pr dr kl fl wt c (nI nd) kc fc sv hqx hc9 hsv) (cwV 0 hts (lw_V q162 q163 q164 q26 q165) rfl rfl rfl (by decide +kernel) ⟨Nat.le_of_ble_eq_true rfl, Nat.le_of_ble_eq_true rfl⟩) (x_preV _ hKx hPx) rfl rfl hl.1 rfl (lv_room (Nat.le_of_ble_eq_true rfl)) dL_law_325 ⟨Nat.le_of_ble_eq_true rfl, Nat.le_of_ble_eq_true rfl⟩) hS hax hPm (sep_m hsep) (fun r u H locs hu hPx hPm hS => ?_)
  refine lv_aload_n hx hb dL_law_328 rfl (lv_at hl 2 rfl) ?_
  refine g_callF (va_runV (As := []) (rest := [.int r]) ⟨hx, hb, hml, hown, hts⟩ (mX1_corrections l D q2 d2 lt pm ab (nI bb) c hqm hc9) (cwV 0 hts (lw_V q309 q310 q311 q27 q312) rfl rfl rfl (by decide +kernel) ⟨Nat.le_of_ble_eq_true rfl, Nat.le_of_ble_eq_true rfl⟩) (m_preV _ hKm hPm) rfl rfl hl.1 rfl (lv_room (Nat.le_of_ble_eq_true rfl)) dL_law_329 ⟨Nat.le_of_ble_eq_true rfl, Nat.le_of_ble_eq_true rfl⟩) hS ham hPx (sep_x hsep) (fun r' u' H locs hu' hPm hPx hS => ?_)
  obtain ⟨e1, hR'⟩ := pl_corrections (wt := wt) (ab := ab) hR hu hu'
  exact lv_icmp_eq (tgt := 481) hx hb dL_law_332 (by decide) (fun _ => kk u u' H locs hR' hPx hPm hS) (fun h => absurd e1 h)
set_option maxHeartbeats 4000000 in
theorem law_correction {p : Program} {l : Launch} {e : Env} {s : State} {m : MethodId} {below : List Frame} {meth : Method} {cd : Code} {b L : Nat} {xs : Nat → Int32} {D : va_G} {q q2 : Nat → Nat} {d d2 : Nat → ClassId} {H : Heap} {locs : List Loc} {ls : Array Slot} {Q : State → Prop} {i : Nat} {x : XS} {y : MS} (C : LC p s m meth cd b L xs D q q2 d d2) (hi : i + 2 < L) (hR : Rel x y) (hPx : va_P D vwCl (xwS q d x) H) (hPm : va_P D vwCl (mwS q2 d2 y) H) (hS : va_S (fun a => s.heap.size ≤ a) s.heap H locs) (hl : lv_has ls 4 [(0, .ref b), (1, .ref (q 0)), (2, .ref (q2 0)), (3, .int (nI i))]) (kk : ∀ (x : XS) (y : MS) (H : Heap) (locs : List Loc), Rel x y → va_P D vwCl (xwS q d x) H → va_P D vwCl (mwS q2 d2 y) H → va_S (fun a => s.heap.size ≤ a) s.heap H locs → W p l e room_1 s m #[Value.ref b] below meth cd H locs 600000 7290000 Q (F0 m 481 ls [])) : W p l e room_1 s m #[Value.ref b] below meth cd H locs 600000 7290000 Q (F0 m 337 ls []) := by
  obtain ⟨hx, hb, hr, hml, hown, hts, hX, hbl, hlocks, hL, hKx, hKm, hqx, hqm, hsep, hax, ham⟩ := C
  obtain ⟨w, pr, dr, kl, fl, wt, c, nd, kc, fc, sv, lt, pm, ab, bb, rfl, rfl, hR⟩ := hR
  obtain ⟨hc9, hd, -, -, hsv⟩ := id hR
  have hnd := hd.1
  have hb1 := hd.2.1
  have hbA : ¬ (fun a : Nat => s.heap.size ≤ a) b := Nat.not_le.mpr hbl
  have hPx : va_P D vwCl (xw q d w pr dr kl fl wt (nI c) (nI nd) kc fc sv) H := hPx
  have hPm : va_P D vwCl (mw q2 d2 lt pm ab (nI bb) (nI c)) H := hPm
  have hown : s.vm.findClass "ConflictSetsLaw" = some m.cls := hown
  refine lv_aload_n hx hb dL_law_337 rfl (lv_at hl 1 rfl) ?_
  refine lv_aload_n hx hb dL_law_338 rfl (lv_at hl 0 rfl) ?_
  refine lv_iload_n hx hb dL_law_339 rfl (lv_at hl 3 rfl) ?_
  refine lv_iconst (v := 1) hx hb dL_law_340 (by decide) ?_
  refine lv_iadd hx hb dL_law_341 ?_
  refine g_tw (y := nI (i + 1)) (nI_add i 1) ?_
  refine l_sld hx hb hX hbl hbA hS (k := i + 1) (by omega) (by omega) dL_law_342 ?_
  refine g_callF (va_runV (As := [.int (xs (i + 1))]) (rest := []) ⟨hx, hb, hml, hown, hts⟩ (mX0_correction l D q d w pr dr kl fl wt c (nI nd) kc fc sv (xs (i + 1)) hqx hc9 hsv) (cwV 1 hts (lw_V q166 q167 q168 q26 q169) rfl rfl rfl (by decide +kernel) ⟨Nat.le_of_ble_eq_true rfl, Nat.le_of_ble_eq_true rfl⟩) (x_preV _ hKx hPx) rfl rfl hl.1 rfl (lv_room (Nat.le_of_ble_eq_true rfl)) dL_law_343 ⟨Nat.le_of_ble_eq_true rfl, Nat.le_of_ble_eq_true rfl⟩) hS hax hPm (sep_m hsep) (fun r u H locs hu hPx hPm hS => ?_)
  refine lv_aload_n hx hb dL_law_346 rfl (lv_at hl 2 rfl) ?_
  refine lv_aload_n hx hb dL_law_347 rfl (lv_at hl 0 rfl) ?_
  refine lv_iload_n hx hb dL_law_348 rfl (lv_at hl 3 rfl) ?_
  refine lv_iconst (v := 1) hx hb dL_law_349 (by decide) ?_
  refine lv_iadd hx hb dL_law_350 ?_
  refine g_tw (y := nI (i + 1)) (nI_add i 1) ?_
  refine l_sld hx hb hX hbl hbA hS (k := i + 1) (by omega) (by omega) dL_law_351 ?_
  refine g_callF (va_runV (As := [.int (xs (i + 1))]) (rest := [.int r]) ⟨hx, hb, hml, hown, hts⟩ (mX1_correction l D q2 d2 lt pm ab (nI bb) c (xs (i + 1)) hqm hc9) (cwV 1 hts (lw_V q313 q314 q315 q27 q316) rfl rfl rfl (by decide +kernel) ⟨Nat.le_of_ble_eq_true rfl, Nat.le_of_ble_eq_true rfl⟩) (m_preV _ hKm hPm) rfl rfl hl.1 rfl (lv_room (Nat.le_of_ble_eq_true rfl)) dL_law_352 ⟨Nat.le_of_ble_eq_true rfl, Nat.le_of_ble_eq_true rfl⟩) hS ham hPx (sep_x hsep) (fun r' u' H locs hu' hPm hPx hS => ?_)
  obtain ⟨e1, hR'⟩ := pl_correction (wt := wt) (ab := ab) hR hu hu'
  exact lv_icmp_eq (tgt := 481) hx hb dL_law_355 (by decide) (fun _ => kk u u' H locs hR' hPx hPm hS) (fun h => absurd e1 h)
set_option maxHeartbeats 4000000 in
theorem law_cheapest {p : Program} {l : Launch} {e : Env} {s : State} {m : MethodId} {below : List Frame} {meth : Method} {cd : Code} {b L : Nat} {xs : Nat → Int32} {D : va_G} {q q2 : Nat → Nat} {d d2 : Nat → ClassId} {H : Heap} {locs : List Loc} {ls : Array Slot} {Q : State → Prop} {i : Nat} {x : XS} {y : MS} (C : LC p s m meth cd b L xs D q q2 d d2) (hi : i + 2 < L) (hR : Rel x y) (hPx : va_P D vwCl (xwS q d x) H) (hPm : va_P D vwCl (mwS q2 d2 y) H) (hS : va_S (fun a => s.heap.size ≤ a) s.heap H locs) (hl : lv_has ls 4 [(0, .ref b), (1, .ref (q 0)), (2, .ref (q2 0)), (3, .int (nI i))]) (kk : ∀ (x : XS) (y : MS) (H : Heap) (locs : List Loc), Rel x y → va_P D vwCl (xwS q d x) H → va_P D vwCl (mwS q2 d2 y) H → va_S (fun a => s.heap.size ≤ a) s.heap H locs → W p l e room_1 s m #[Value.ref b] below meth cd H locs 600000 7290000 Q (F0 m 481 ls [])) : W p l e room_1 s m #[Value.ref b] below meth cd H locs 600000 7290000 Q (F0 m 360 ls []) := by
  obtain ⟨hx, hb, hr, hml, hown, hts, hX, hbl, hlocks, hL, hKx, hKm, hqx, hqm, hsep, hax, ham⟩ := C
  obtain ⟨w, pr, dr, kl, fl, wt, c, nd, kc, fc, sv, lt, pm, ab, bb, rfl, rfl, hR⟩ := hR
  obtain ⟨hc9, hd, -, -, hsv⟩ := id hR
  have hnd := hd.1
  have hb1 := hd.2.1
  have hbA : ¬ (fun a : Nat => s.heap.size ≤ a) b := Nat.not_le.mpr hbl
  have hPx : va_P D vwCl (xw q d w pr dr kl fl wt (nI c) (nI nd) kc fc sv) H := hPx
  have hPm : va_P D vwCl (mw q2 d2 lt pm ab (nI bb) (nI c)) H := hPm
  have hown : s.vm.findClass "ConflictSetsLaw" = some m.cls := hown
  refine lv_aload_n hx hb dL_law_360 rfl (lv_at hl 1 rfl) ?_
  refine g_callF (va_runV (As := []) (rest := []) ⟨hx, hb, hml, hown, hts⟩ (mX0_cheapest l D q d w pr dr kl fl wt c (nI nd) kc fc sv hqx hc9 hsv) (cwV 0 hts (lw_V q170 q171 q172 q26 q173) rfl rfl rfl (by decide +kernel) ⟨Nat.le_of_ble_eq_true rfl, Nat.le_of_ble_eq_true rfl⟩) (x_preV _ hKx hPx) rfl rfl hl.1 rfl (lv_room (Nat.le_of_ble_eq_true rfl)) dL_law_361 ⟨Nat.le_of_ble_eq_true rfl, Nat.le_of_ble_eq_true rfl⟩) hS hax hPm (sep_m hsep) (fun r u H locs hu hPx hPm hS => ?_)
  refine lv_aload_n hx hb dL_law_364 rfl (lv_at hl 2 rfl) ?_
  refine g_callF (va_runV (As := []) (rest := [.int r]) ⟨hx, hb, hml, hown, hts⟩ (mX1_cheapest l D q2 d2 lt pm ab (nI bb) c hqm hc9) (cwV 0 hts (lw_V q317 q318 q319 q27 q320) rfl rfl rfl (by decide +kernel) ⟨Nat.le_of_ble_eq_true rfl, Nat.le_of_ble_eq_true rfl⟩) (m_preV _ hKm hPm) rfl rfl hl.1 rfl (lv_room (Nat.le_of_ble_eq_true rfl)) dL_law_365 ⟨Nat.le_of_ble_eq_true rfl, Nat.le_of_ble_eq_true rfl⟩) hS ham hPx (sep_x hsep) (fun r' u' H locs hu' hPm hPx hS => ?_)
  obtain ⟨e1, hR'⟩ := pl_cheapest (wt := wt) (ab := ab) hR hu hu'
  exact lv_icmp_eq (tgt := 481) hx hb dL_law_368 (by decide) (fun _ => kk u u' H locs hR' hPx hPm hS) (fun h => absurd e1 h)
set_option maxHeartbeats 4000000 in
theorem law_cheapestSet {p : Program} {l : Launch} {e : Env} {s : State} {m : MethodId} {below : List Frame} {meth : Method} {cd : Code} {b L : Nat} {xs : Nat → Int32} {D : va_G} {q q2 : Nat → Nat} {d d2 : Nat → ClassId} {H : Heap} {locs : List Loc} {ls : Array Slot} {Q : State → Prop} {i : Nat} {x : XS} {y : MS} (C : LC p s m meth cd b L xs D q q2 d d2) (hi : i + 2 < L) (hR : Rel x y) (hPx : va_P D vwCl (xwS q d x) H) (hPm : va_P D vwCl (mwS q2 d2 y) H) (hS : va_S (fun a => s.heap.size ≤ a) s.heap H locs) (hl : lv_has ls 4 [(0, .ref b), (1, .ref (q 0)), (2, .ref (q2 0)), (3, .int (nI i))]) (kk : ∀ (x : XS) (y : MS) (H : Heap) (locs : List Loc), Rel x y → va_P D vwCl (xwS q d x) H → va_P D vwCl (mwS q2 d2 y) H → va_S (fun a => s.heap.size ≤ a) s.heap H locs → W p l e room_1 s m #[Value.ref b] below meth cd H locs 600000 7290000 Q (F0 m 481 ls [])) : W p l e room_1 s m #[Value.ref b] below meth cd H locs 600000 7290000 Q (F0 m 373 ls []) := by
  obtain ⟨hx, hb, hr, hml, hown, hts, hX, hbl, hlocks, hL, hKx, hKm, hqx, hqm, hsep, hax, ham⟩ := C
  obtain ⟨w, pr, dr, kl, fl, wt, c, nd, kc, fc, sv, lt, pm, ab, bb, rfl, rfl, hR⟩ := hR
  obtain ⟨hc9, hd, -, -, hsv⟩ := id hR
  have hnd := hd.1
  have hb1 := hd.2.1
  have hbA : ¬ (fun a : Nat => s.heap.size ≤ a) b := Nat.not_le.mpr hbl
  have hPx : va_P D vwCl (xw q d w pr dr kl fl wt (nI c) (nI nd) kc fc sv) H := hPx
  have hPm : va_P D vwCl (mw q2 d2 lt pm ab (nI bb) (nI c)) H := hPm
  have hown : s.vm.findClass "ConflictSetsLaw" = some m.cls := hown
  refine lv_aload_n hx hb dL_law_373 rfl (lv_at hl 1 rfl) ?_
  refine g_callF (va_runV (As := []) (rest := []) ⟨hx, hb, hml, hown, hts⟩ (mX0_cheapestSet l D q d w pr dr kl fl wt c (nI nd) kc fc sv hqx hc9 hsv) (cwV 0 hts (lw_V q182 q175 q176 q26 q177) rfl rfl rfl (by decide +kernel) ⟨Nat.le_of_ble_eq_true rfl, Nat.le_of_ble_eq_true rfl⟩) (x_preV _ hKx hPx) rfl rfl hl.1 rfl (lv_room (Nat.le_of_ble_eq_true rfl)) dL_law_374 ⟨Nat.le_of_ble_eq_true rfl, Nat.le_of_ble_eq_true rfl⟩) hS hax hPm (sep_m hsep) (fun r u H locs hu hPx hPm hS => ?_)
  refine lv_aload_n hx hb dL_law_377 rfl (lv_at hl 2 rfl) ?_
  refine g_callF (va_runV (As := []) (rest := [.int r]) ⟨hx, hb, hml, hown, hts⟩ (mX1_cheapestSet l D q2 d2 lt pm ab (nI bb) c hqm hc9) (cwV 0 hts (lw_V q329 q330 q331 q27 q332) rfl rfl rfl (by decide +kernel) ⟨Nat.le_of_ble_eq_true rfl, Nat.le_of_ble_eq_true rfl⟩) (m_preV _ hKm hPm) rfl rfl hl.1 rfl (lv_room (Nat.le_of_ble_eq_true rfl)) dL_law_378 ⟨Nat.le_of_ble_eq_true rfl, Nat.le_of_ble_eq_true rfl⟩) hS ham hPx (sep_x hsep) (fun r' u' H locs hu' hPm hPx hS => ?_)
  obtain ⟨e1, hR'⟩ := pl_cheapestSet (wt := wt) (ab := ab) hR hu hu'
  exact lv_icmp_eq (tgt := 481) hx hb dL_law_381 (by decide) (fun _ => kk u u' H locs hR' hPx hPm hS) (fun h => absurd e1 h)
set_option maxHeartbeats 4000000 in
theorem law_smallest {p : Program} {l : Launch} {e : Env} {s : State} {m : MethodId} {below : List Frame} {meth : Method} {cd : Code} {b L : Nat} {xs : Nat → Int32} {D : va_G} {q q2 : Nat → Nat} {d d2 : Nat → ClassId} {H : Heap} {locs : List Loc} {ls : Array Slot} {Q : State → Prop} {i : Nat} {x : XS} {y : MS} (C : LC p s m meth cd b L xs D q q2 d d2) (hi : i + 2 < L) (hR : Rel x y) (hPx : va_P D vwCl (xwS q d x) H) (hPm : va_P D vwCl (mwS q2 d2 y) H) (hS : va_S (fun a => s.heap.size ≤ a) s.heap H locs) (hl : lv_has ls 4 [(0, .ref b), (1, .ref (q 0)), (2, .ref (q2 0)), (3, .int (nI i))]) (kk : ∀ (x : XS) (y : MS) (H : Heap) (locs : List Loc), Rel x y → va_P D vwCl (xwS q d x) H → va_P D vwCl (mwS q2 d2 y) H → va_S (fun a => s.heap.size ≤ a) s.heap H locs → W p l e room_1 s m #[Value.ref b] below meth cd H locs 600000 7290000 Q (F0 m 481 ls [])) : W p l e room_1 s m #[Value.ref b] below meth cd H locs 600000 7290000 Q (F0 m 386 ls []) := by
  obtain ⟨hx, hb, hr, hml, hown, hts, hX, hbl, hlocks, hL, hKx, hKm, hqx, hqm, hsep, hax, ham⟩ := C
  obtain ⟨w, pr, dr, kl, fl, wt, c, nd, kc, fc, sv, lt, pm, ab, bb, rfl, rfl, hR⟩ := hR
  obtain ⟨hc9, hd, -, -, hsv⟩ := id hR
  have hnd := hd.1
  have hb1 := hd.2.1
  have hbA : ¬ (fun a : Nat => s.heap.size ≤ a) b := Nat.not_le.mpr hbl
  have hPx : va_P D vwCl (xw q d w pr dr kl fl wt (nI c) (nI nd) kc fc sv) H := hPx
  have hPm : va_P D vwCl (mw q2 d2 lt pm ab (nI bb) (nI c)) H := hPm
  have hown : s.vm.findClass "ConflictSetsLaw" = some m.cls := hown
  refine lv_aload_n hx hb dL_law_386 rfl (lv_at hl 1 rfl) ?_
  refine g_callF (va_runV (As := []) (rest := []) ⟨hx, hb, hml, hown, hts⟩ (mX0_smallest l D q d w pr dr kl fl wt c (nI nd) kc fc sv hqx hc9 hsv) (cwV 0 hts (lw_V q183 q184 q185 q26 q186) rfl rfl rfl (by decide +kernel) ⟨Nat.le_of_ble_eq_true rfl, Nat.le_of_ble_eq_true rfl⟩) (x_preV _ hKx hPx) rfl rfl hl.1 rfl (lv_room (Nat.le_of_ble_eq_true rfl)) dL_law_387 ⟨Nat.le_of_ble_eq_true rfl, Nat.le_of_ble_eq_true rfl⟩) hS hax hPm (sep_m hsep) (fun r u H locs hu hPx hPm hS => ?_)
  refine lv_aload_n hx hb dL_law_390 rfl (lv_at hl 2 rfl) ?_
  refine g_callF (va_runV (As := []) (rest := [.int r]) ⟨hx, hb, hml, hown, hts⟩ (mX1_smallest l D q2 d2 lt pm ab (nI bb) c hqm hc9) (cwV 0 hts (lw_V q333 q334 q335 q27 q336) rfl rfl rfl (by decide +kernel) ⟨Nat.le_of_ble_eq_true rfl, Nat.le_of_ble_eq_true rfl⟩) (m_preV _ hKm hPm) rfl rfl hl.1 rfl (lv_room (Nat.le_of_ble_eq_true rfl)) dL_law_391 ⟨Nat.le_of_ble_eq_true rfl, Nat.le_of_ble_eq_true rfl⟩) hS ham hPx (sep_x hsep) (fun r' u' H locs hu' hPm hPx hS => ?_)
  obtain ⟨e1, hR'⟩ := pl_smallest (wt := wt) (ab := ab) hR hu hu'
  exact lv_icmp_eq (tgt := 481) hx hb dL_law_394 (by decide) (fun _ => kk u u' H locs hR' hPx hPm hS) (fun h => absurd e1 h)
set_option maxHeartbeats 4000000 in
theorem law_blame {p : Program} {l : Launch} {e : Env} {s : State} {m : MethodId} {below : List Frame} {meth : Method} {cd : Code} {b L : Nat} {xs : Nat → Int32} {D : va_G} {q q2 : Nat → Nat} {d d2 : Nat → ClassId} {H : Heap} {locs : List Loc} {ls : Array Slot} {Q : State → Prop} {i : Nat} {x : XS} {y : MS} (C : LC p s m meth cd b L xs D q q2 d d2) (hi : i + 2 < L) (hR : Rel x y) (hPx : va_P D vwCl (xwS q d x) H) (hPm : va_P D vwCl (mwS q2 d2 y) H) (hS : va_S (fun a => s.heap.size ≤ a) s.heap H locs) (hl : lv_has ls 4 [(0, .ref b), (1, .ref (q 0)), (2, .ref (q2 0)), (3, .int (nI i))]) (kk : ∀ (x : XS) (y : MS) (H : Heap) (locs : List Loc), Rel x y → va_P D vwCl (xwS q d x) H → va_P D vwCl (mwS q2 d2 y) H → va_S (fun a => s.heap.size ≤ a) s.heap H locs → W p l e room_1 s m #[Value.ref b] below meth cd H locs 600000 7290000 Q (F0 m 481 ls [])) : W p l e room_1 s m #[Value.ref b] below meth cd H locs 600000 7290000 Q (F0 m 399 ls []) := by
  obtain ⟨hx, hb, hr, hml, hown, hts, hX, hbl, hlocks, hL, hKx, hKm, hqx, hqm, hsep, hax, ham⟩ := C
  obtain ⟨w, pr, dr, kl, fl, wt, c, nd, kc, fc, sv, lt, pm, ab, bb, rfl, rfl, hR⟩ := hR
  obtain ⟨hc9, hd, -, -, hsv⟩ := id hR
  have hnd := hd.1
  have hb1 := hd.2.1
  have hbA : ¬ (fun a : Nat => s.heap.size ≤ a) b := Nat.not_le.mpr hbl
  have hPx : va_P D vwCl (xw q d w pr dr kl fl wt (nI c) (nI nd) kc fc sv) H := hPx
  have hPm : va_P D vwCl (mw q2 d2 lt pm ab (nI bb) (nI c)) H := hPm
  have hown : s.vm.findClass "ConflictSetsLaw" = some m.cls := hown
  refine lv_aload_n hx hb dL_law_399 rfl (lv_at hl 1 rfl) ?_
  refine lv_aload_n hx hb dL_law_400 rfl (lv_at hl 0 rfl) ?_
  refine lv_iload_n hx hb dL_law_401 rfl (lv_at hl 3 rfl) ?_
  refine lv_iconst (v := 1) hx hb dL_law_402 (by decide) ?_
  refine lv_iadd hx hb dL_law_403 ?_
  refine g_tw (y := nI (i + 1)) (nI_add i 1) ?_
  refine l_sld hx hb hX hbl hbA hS (k := i + 1) (by omega) (by omega) dL_law_404 ?_
  refine g_callF (va_runV (As := [.int (xs (i + 1))]) (rest := []) ⟨hx, hb, hml, hown, hts⟩ (mX0_blame l D q d w pr dr kl fl wt c (nI nd) kc fc sv (xs (i + 1)) hqx hc9 hsv) (cwV 1 hts (lw_V q190 q191 q192 q26 q193) rfl rfl rfl (by decide +kernel) ⟨Nat.le_of_ble_eq_true rfl, Nat.le_of_ble_eq_true rfl⟩) (x_preV _ hKx hPx) rfl rfl hl.1 rfl (lv_room (Nat.le_of_ble_eq_true rfl)) dL_law_405 ⟨Nat.le_of_ble_eq_true rfl, Nat.le_of_ble_eq_true rfl⟩) hS hax hPm (sep_m hsep) (fun r u H locs hu hPx hPm hS => ?_)
  refine lv_aload_n hx hb dL_law_408 rfl (lv_at hl 2 rfl) ?_
  refine lv_aload_n hx hb dL_law_409 rfl (lv_at hl 0 rfl) ?_
  refine lv_iload_n hx hb dL_law_410 rfl (lv_at hl 3 rfl) ?_
  refine lv_iconst (v := 1) hx hb dL_law_411 (by decide) ?_
  refine lv_iadd hx hb dL_law_412 ?_
  refine g_tw (y := nI (i + 1)) (nI_add i 1) ?_
  refine l_sld hx hb hX hbl hbA hS (k := i + 1) (by omega) (by omega) dL_law_413 ?_
  refine g_callF (va_runV (As := [.int (xs (i + 1))]) (rest := [.int r]) ⟨hx, hb, hml, hown, hts⟩ (mX1_blame l D q2 d2 lt pm ab (nI bb) c (xs (i + 1)) hqm hc9) (cwV 1 hts (lw_V q337 q338 q339 q27 q340) rfl rfl rfl (by decide +kernel) ⟨Nat.le_of_ble_eq_true rfl, Nat.le_of_ble_eq_true rfl⟩) (m_preV _ hKm hPm) rfl rfl hl.1 rfl (lv_room (Nat.le_of_ble_eq_true rfl)) dL_law_414 ⟨Nat.le_of_ble_eq_true rfl, Nat.le_of_ble_eq_true rfl⟩) hS ham hPx (sep_x hsep) (fun r' u' H locs hu' hPm hPx hS => ?_)
  obtain ⟨e1, hR'⟩ := pl_blame (wt := wt) (ab := ab) hR hu hu'
  exact lv_icmp_eq (tgt := 481) hx hb dL_law_417 (by decide) (fun _ => kk u u' H locs hR' hPx hPm hS) (fun h => absurd e1 h)
set_option maxHeartbeats 4000000 in
theorem law_core {p : Program} {l : Launch} {e : Env} {s : State} {m : MethodId} {below : List Frame} {meth : Method} {cd : Code} {b L : Nat} {xs : Nat → Int32} {D : va_G} {q q2 : Nat → Nat} {d d2 : Nat → ClassId} {H : Heap} {locs : List Loc} {ls : Array Slot} {Q : State → Prop} {i : Nat} {x : XS} {y : MS} (C : LC p s m meth cd b L xs D q q2 d d2) (hi : i + 2 < L) (hR : Rel x y) (hPx : va_P D vwCl (xwS q d x) H) (hPm : va_P D vwCl (mwS q2 d2 y) H) (hS : va_S (fun a => s.heap.size ≤ a) s.heap H locs) (hl : lv_has ls 4 [(0, .ref b), (1, .ref (q 0)), (2, .ref (q2 0)), (3, .int (nI i))]) (kk : ∀ (x : XS) (y : MS) (H : Heap) (locs : List Loc), Rel x y → va_P D vwCl (xwS q d x) H → va_P D vwCl (mwS q2 d2 y) H → va_S (fun a => s.heap.size ≤ a) s.heap H locs → W p l e room_1 s m #[Value.ref b] below meth cd H locs 600000 7290000 Q (F0 m 481 ls [])) : W p l e room_1 s m #[Value.ref b] below meth cd H locs 600000 7290000 Q (F0 m 422 ls []) := by
  obtain ⟨hx, hb, hr, hml, hown, hts, hX, hbl, hlocks, hL, hKx, hKm, hqx, hqm, hsep, hax, ham⟩ := C
  obtain ⟨w, pr, dr, kl, fl, wt, c, nd, kc, fc, sv, lt, pm, ab, bb, rfl, rfl, hR⟩ := hR
  obtain ⟨hc9, hd, -, -, hsv⟩ := id hR
  have hnd := hd.1
  have hb1 := hd.2.1
  have hbA : ¬ (fun a : Nat => s.heap.size ≤ a) b := Nat.not_le.mpr hbl
  have hPx : va_P D vwCl (xw q d w pr dr kl fl wt (nI c) (nI nd) kc fc sv) H := hPx
  have hPm : va_P D vwCl (mw q2 d2 lt pm ab (nI bb) (nI c)) H := hPm
  have hown : s.vm.findClass "ConflictSetsLaw" = some m.cls := hown
  refine lv_aload_n hx hb dL_law_422 rfl (lv_at hl 1 rfl) ?_
  refine g_callF (va_runV (As := []) (rest := []) ⟨hx, hb, hml, hown, hts⟩ (mX0_core l D q d w pr dr kl fl wt c (nI nd) kc fc sv hqx hc9 hsv) (cwV 0 hts (lw_V q194 q195 q196 q26 q197) rfl rfl rfl (by decide +kernel) ⟨Nat.le_of_ble_eq_true rfl, Nat.le_of_ble_eq_true rfl⟩) (x_preV _ hKx hPx) rfl rfl hl.1 rfl (lv_room (Nat.le_of_ble_eq_true rfl)) dL_law_423 ⟨Nat.le_of_ble_eq_true rfl, Nat.le_of_ble_eq_true rfl⟩) hS hax hPm (sep_m hsep) (fun r u H locs hu hPx hPm hS => ?_)
  refine lv_aload_n hx hb dL_law_426 rfl (lv_at hl 2 rfl) ?_
  refine g_callF (va_runV (As := []) (rest := [.int r]) ⟨hx, hb, hml, hown, hts⟩ (mX1_core l D q2 d2 lt pm ab (nI bb) c hqm hc9) (cwV 0 hts (lw_V q341 q342 q343 q27 q344) rfl rfl rfl (by decide +kernel) ⟨Nat.le_of_ble_eq_true rfl, Nat.le_of_ble_eq_true rfl⟩) (m_preV _ hKm hPm) rfl rfl hl.1 rfl (lv_room (Nat.le_of_ble_eq_true rfl)) dL_law_427 ⟨Nat.le_of_ble_eq_true rfl, Nat.le_of_ble_eq_true rfl⟩) hS ham hPx (sep_x hsep) (fun r' u' H locs hu' hPm hPx hS => ?_)
  obtain ⟨e1, hR'⟩ := pl_core (wt := wt) (ab := ab) hR hu hu'
  exact lv_icmp_eq (tgt := 481) hx hb dL_law_430 (by decide) (fun _ => kk u u' H locs hR' hPx hPm hS) (fun h => absurd e1 h)
set_option maxHeartbeats 4000000 in
theorem law_sort {p : Program} {l : Launch} {e : Env} {s : State} {m : MethodId} {below : List Frame} {meth : Method} {cd : Code} {b L : Nat} {xs : Nat → Int32} {D : va_G} {q q2 : Nat → Nat} {d d2 : Nat → ClassId} {H : Heap} {locs : List Loc} {ls : Array Slot} {Q : State → Prop} {i : Nat} {x : XS} {y : MS} (C : LC p s m meth cd b L xs D q q2 d d2) (hi : i + 2 < L) (hR : Rel x y) (hPx : va_P D vwCl (xwS q d x) H) (hPm : va_P D vwCl (mwS q2 d2 y) H) (hS : va_S (fun a => s.heap.size ≤ a) s.heap H locs) (hl : lv_has ls 4 [(0, .ref b), (1, .ref (q 0)), (2, .ref (q2 0)), (3, .int (nI i))]) (kk : ∀ (x : XS) (y : MS) (H : Heap) (locs : List Loc), Rel x y → va_P D vwCl (xwS q d x) H → va_P D vwCl (mwS q2 d2 y) H → va_S (fun a => s.heap.size ≤ a) s.heap H locs → W p l e room_1 s m #[Value.ref b] below meth cd H locs 600000 7290000 Q (F0 m 481 ls [])) : W p l e room_1 s m #[Value.ref b] below meth cd H locs 600000 7290000 Q (F0 m 435 ls []) := by
  obtain ⟨hx, hb, hr, hml, hown, hts, hX, hbl, hlocks, hL, hKx, hKm, hqx, hqm, hsep, hax, ham⟩ := C
  obtain ⟨w, pr, dr, kl, fl, wt, c, nd, kc, fc, sv, lt, pm, ab, bb, rfl, rfl, hR⟩ := hR
  obtain ⟨hc9, hd, -, -, hsv⟩ := id hR
  have hnd := hd.1
  have hb1 := hd.2.1
  have hbA : ¬ (fun a : Nat => s.heap.size ≤ a) b := Nat.not_le.mpr hbl
  have hPx : va_P D vwCl (xw q d w pr dr kl fl wt (nI c) (nI nd) kc fc sv) H := hPx
  have hPm : va_P D vwCl (mw q2 d2 lt pm ab (nI bb) (nI c)) H := hPm
  have hown : s.vm.findClass "ConflictSetsLaw" = some m.cls := hown
  refine lv_aload_n hx hb dL_law_435 rfl (lv_at hl 1 rfl) ?_
  refine lv_aload_n hx hb dL_law_436 rfl (lv_at hl 0 rfl) ?_
  refine lv_iload_n hx hb dL_law_437 rfl (lv_at hl 3 rfl) ?_
  refine lv_iconst (v := 1) hx hb dL_law_438 (by decide) ?_
  refine lv_iadd hx hb dL_law_439 ?_
  refine g_tw (y := nI (i + 1)) (nI_add i 1) ?_
  refine l_sld hx hb hX hbl hbA hS (k := i + 1) (by omega) (by omega) dL_law_440 ?_
  refine g_callF (va_runV (As := [.int (xs (i + 1))]) (rest := []) ⟨hx, hb, hml, hown, hts⟩ (mX0_sort l D q d w pr dr kl fl wt c (nI nd) kc fc sv (xs (i + 1)) hqx hc9 hsv) (cwV 1 hts (lw_V q198 q199 q200 q26 q201) rfl rfl rfl (by decide +kernel) ⟨Nat.le_of_ble_eq_true rfl, Nat.le_of_ble_eq_true rfl⟩) (x_preV _ hKx hPx) rfl rfl hl.1 rfl (lv_room (Nat.le_of_ble_eq_true rfl)) dL_law_441 ⟨Nat.le_of_ble_eq_true rfl, Nat.le_of_ble_eq_true rfl⟩) hS hax hPm (sep_m hsep) (fun r u H locs hu hPx hPm hS => ?_)
  refine lv_aload_n hx hb dL_law_444 rfl (lv_at hl 2 rfl) ?_
  refine lv_aload_n hx hb dL_law_445 rfl (lv_at hl 0 rfl) ?_
  refine lv_iload_n hx hb dL_law_446 rfl (lv_at hl 3 rfl) ?_
  refine lv_iconst (v := 1) hx hb dL_law_447 (by decide) ?_
  refine lv_iadd hx hb dL_law_448 ?_
  refine g_tw (y := nI (i + 1)) (nI_add i 1) ?_
  refine l_sld hx hb hX hbl hbA hS (k := i + 1) (by omega) (by omega) dL_law_449 ?_
  refine g_callF (va_runV (As := [.int (xs (i + 1))]) (rest := [.int r]) ⟨hx, hb, hml, hown, hts⟩ (mX1_sort l D q2 d2 lt pm ab (nI bb) c (xs (i + 1)) hqm hc9) (cwV 1 hts (lw_V q345 q346 q347 q27 q348) rfl rfl rfl (by decide +kernel) ⟨Nat.le_of_ble_eq_true rfl, Nat.le_of_ble_eq_true rfl⟩) (m_preV _ hKm hPm) rfl rfl hl.1 rfl (lv_room (Nat.le_of_ble_eq_true rfl)) dL_law_450 ⟨Nat.le_of_ble_eq_true rfl, Nat.le_of_ble_eq_true rfl⟩) hS ham hPx (sep_x hsep) (fun r' u' H locs hu' hPm hPx hS => ?_)
  obtain ⟨e1, hR'⟩ := pl_sort (wt := wt) (ab := ab) hR hu hu'
  exact lv_icmp_eq (tgt := 481) hx hb dL_law_453 (by decide) (fun _ => kk u u' H locs hR' hPx hPm hS) (fun h => absurd e1 h)
set_option maxHeartbeats 4000000 in
theorem law_width {p : Program} {l : Launch} {e : Env} {s : State} {m : MethodId} {below : List Frame} {meth : Method} {cd : Code} {b L : Nat} {xs : Nat → Int32} {D : va_G} {q q2 : Nat → Nat} {d d2 : Nat → ClassId} {H : Heap} {locs : List Loc} {ls : Array Slot} {Q : State → Prop} {i : Nat} {x : XS} {y : MS} (C : LC p s m meth cd b L xs D q q2 d d2) (hi : i + 2 < L) (hR : Rel x y) (hPx : va_P D vwCl (xwS q d x) H) (hPm : va_P D vwCl (mwS q2 d2 y) H) (hS : va_S (fun a => s.heap.size ≤ a) s.heap H locs) (hl : lv_has ls 4 [(0, .ref b), (1, .ref (q 0)), (2, .ref (q2 0)), (3, .int (nI i))]) (kk : ∀ (x : XS) (y : MS) (H : Heap) (locs : List Loc), Rel x y → va_P D vwCl (xwS q d x) H → va_P D vwCl (mwS q2 d2 y) H → va_S (fun a => s.heap.size ≤ a) s.heap H locs → W p l e room_1 s m #[Value.ref b] below meth cd H locs 600000 7290000 Q (F0 m 481 ls [])) : W p l e room_1 s m #[Value.ref b] below meth cd H locs 600000 7290000 Q (F0 m 458 ls []) := by
  obtain ⟨hx, hb, hr, hml, hown, hts, hX, hbl, hlocks, hL, hKx, hKm, hqx, hqm, hsep, hax, ham⟩ := C
  obtain ⟨w, pr, dr, kl, fl, wt, c, nd, kc, fc, sv, lt, pm, ab, bb, rfl, rfl, hR⟩ := hR
  obtain ⟨hc9, hd, -, -, hsv⟩ := id hR
  have hnd := hd.1
  have hb1 := hd.2.1
  have hbA : ¬ (fun a : Nat => s.heap.size ≤ a) b := Nat.not_le.mpr hbl
  have hPx : va_P D vwCl (xw q d w pr dr kl fl wt (nI c) (nI nd) kc fc sv) H := hPx
  have hPm : va_P D vwCl (mw q2 d2 lt pm ab (nI bb) (nI c)) H := hPm
  have hown : s.vm.findClass "ConflictSetsLaw" = some m.cls := hown
  refine lv_aload_n hx hb dL_law_458 rfl (lv_at hl 1 rfl) ?_
  refine lv_aload_n hx hb dL_law_459 rfl (lv_at hl 0 rfl) ?_
  refine lv_iload_n hx hb dL_law_460 rfl (lv_at hl 3 rfl) ?_
  refine lv_iconst (v := 1) hx hb dL_law_461 (by decide) ?_
  refine lv_iadd hx hb dL_law_462 ?_
  refine g_tw (y := nI (i + 1)) (nI_add i 1) ?_
  refine l_sld hx hb hX hbl hbA hS (k := i + 1) (by omega) (by omega) dL_law_463 ?_
  refine g_callR (W.runV (As := [.int (xs (i + 1))]) (rest := []) ⟨hx, hb, hml, hown, hts⟩ (mX0_width l D q d w pr dr kl fl wt c (nI nd) kc fc sv (xs (i + 1)) hc9) (cwV 1 hts (lw_V q202 q203 q204 q26 q205) rfl rfl rfl (by decide +kernel) ⟨Nat.le_of_ble_eq_true rfl, Nat.le_of_ble_eq_true rfl⟩) (x_preV _ hKx hPx) rfl rfl hl.1 rfl (lv_room (Nat.le_of_ble_eq_true rfl)) dL_law_464 ⟨Nat.le_of_ble_eq_true rfl, Nat.le_of_ble_eq_true rfl⟩) ?_
  refine lv_aload_n hx hb dL_law_467 rfl (lv_at hl 2 rfl) ?_
  refine lv_aload_n hx hb dL_law_468 rfl (lv_at hl 0 rfl) ?_
  refine lv_iload_n hx hb dL_law_469 rfl (lv_at hl 3 rfl) ?_
  refine lv_iconst (v := 1) hx hb dL_law_470 (by decide) ?_
  refine lv_iadd hx hb dL_law_471 ?_
  refine g_tw (y := nI (i + 1)) (nI_add i 1) ?_
  refine l_sld hx hb hX hbl hbA hS (k := i + 1) (by omega) (by omega) dL_law_472 ?_
  refine g_callR (W.runV (As := [.int (xs (i + 1))]) (rest := [.int _]) ⟨hx, hb, hml, hown, hts⟩ (mX1_width l D q2 d2 lt pm ab (nI bb) c (xs (i + 1)) hc9) (cwV 1 hts (lw_V q349 q350 q351 q27 q352) rfl rfl rfl (by decide +kernel) ⟨Nat.le_of_ble_eq_true rfl, Nat.le_of_ble_eq_true rfl⟩) (m_preV _ hKm hPm) rfl rfl hl.1 rfl (lv_room (Nat.le_of_ble_eq_true rfl)) dL_law_473 ⟨Nat.le_of_ble_eq_true rfl, Nat.le_of_ble_eq_true rfl⟩) ?_
  exact lv_icmp_eq (tgt := 481) hx hb dL_law_476 (by decide) (fun _ => kk _ _ H locs (relI hR) hPx hPm hS) (fun h => absurd (pl_width hR) h)
end
section
/-! the law whole: its loop, its entry, and the claim (lw_walk .. i_vc are rows of laws/SKELETON.whole and the owed statement) -/
set_option maxRecDepth 100000

set_option maxHeartbeats 4000000 in
theorem law_loop {p : Program} {l : Launch} {e : Env} {s : State} {m : MethodId} {below : List Frame} {meth : Method} {cd : Code} {b L : Nat} {xs : Nat → Int32} {D : va_G} {q q2 : Nat → Nat} {d d2 : Nat → ClassId} (C : LC p s m meth cd b L xs D q q2 d d2) : ∀ (n : Nat) (H : Heap) (locs : List Loc) (ls : Array Slot), (∃ (i : Nat) (x : XS) (y : MS), n = L - i ∧ i ≤ L ∧ Rel x y ∧ va_P D vwCl (xwS q d x) H ∧ va_P D vwCl (mwS q2 d2 y) H ∧ va_S (fun a => s.heap.size ≤ a) s.heap H locs ∧ lv_has ls 4 [(0, .ref b), (1, .ref (q 0)), (2, .ref (q2 0)), (3, .int (nI i))]) → W p l e room_1 s m #[Value.ref b] below meth cd H locs 600000 7290000 (lw_Z below #[Value.ref b] s) (F0 m 18 ls []) := by
  refine g_loopH (fun n H locs ls => ∃ (i : Nat) (x : XS) (y : MS), n = L - i ∧ i ≤ L ∧ Rel x y ∧ va_P D vwCl (xwS q d x) H ∧ va_P D vwCl (mwS q2 d2 y) H ∧ va_S (fun a => s.heap.size ≤ a) s.heap H locs ∧ lv_has ls 4 [(0, .ref b), (1, .ref (q 0)), (2, .ref (q2 0)), (3, .int (nI i))]) ?_
  intro n H locs ls hh ih
  obtain ⟨i, x, y, hn, hi, hR, hPx, hPm, hS, hl⟩ := hh
  obtain ⟨hx, hb, hr, hml, hown, hts, hX, hbl, hlocks, hL, hKx, hKm, hqx, hqm, hsep, hax, ham⟩ := id C
  have hbA : ¬ (fun a : Nat => s.heap.size ≤ a) b := Nat.not_le.mpr hbl
  refine lv_iload_n hx hb dL_law_18 rfl (lv_at hl 3 rfl) ?_
  refine lv_aload_n hx hb dL_law_19 rfl (lv_at hl 0 rfl) ?_
  refine va_slen hx hb hX hbl hbA hS dL_law_20 ?_
  refine lv_iconst (v := 3) hx hb dL_law_21 (by decide) ?_
  refine lv_isub hx hb dL_law_22 ?_
  refine lv_icmp_gt (tgt := 487) hx hb dL_law_23 (by decide) (fun c_23 => ?_) (fun c_23 => ?_)
  · refine lv_iconst (v := 1) hx hb dL_law_487 (by decide) ?_
    exact va_forget hS.2.2 (lw_ret hx hb hr hlocks dL_law_488)
  · have hin : i + 2 < L := head_in hL hi c_23
    have kk : ∀ (x : XS) (y : MS) (H : Heap) (locs : List Loc), Rel x y → va_P D vwCl (xwS q d x) H → va_P D vwCl (mwS q2 d2 y) H → va_S (fun a => s.heap.size ≤ a) s.heap H locs → W p l e room_1 s m #[Value.ref b] below meth cd H locs 600000 7290000 (lw_Z below #[Value.ref b] s) (F0 m 481 ls []) := by
      intro x y H locs hR hPx hPm hS
      refine lv_iinc (v := nI (i + 3)) (lv' := [(3, .int (nI (i + 3))), (0, .ref b), (1, .ref (q 0)), (2, .ref (q2 0))]) hx hb dL_law_481 hl (k := 3) rfl (nI_add i 3) (by decide) rfl (fun ls hl => ?_)
      refine lv_goto (tgt := 18) hx hb dL_law_484 (by decide) ?_
      exact ih (L - (i + 3)) H locs ls (by omega) ⟨i + 3, x, y, rfl, by omega, hR, hPx, hPm, hS, lv_sub hl [1, 2, 3, 0] rfl⟩
    refine lv_aload_n hx hb dL_law_26 rfl (lv_at hl 0 rfl) ?_
    refine lv_iload_n hx hb dL_law_27 rfl (lv_at hl 3 rfl) ?_
    refine l_sld hx hb hX hbl hbA hS (k := i) (by omega) (by omega) dL_law_28 ?_
    refine lv_bipush (v := 31) hx hb dL_law_29 (by decide) ?_
    refine lv_iand hx hb dL_law_31 ?_
    obtain ⟨j, hj, ej⟩ := pk_andE (xs i) (m := 31) 5 (by decide)
    refine g_tw (y := nI j) ej ?_
    rcases Nat.lt_or_ge j 19 with z | z
    · match j, z with
      | 0, _ => exact lv_tableIn (off := 92) (tgt := 124) hx hb dL_law_32 (by decide) (by decide) (by decide) (by decide) (law_literal C hin hR hPx hPm hS hl kk)
      | 1, _ => exact lv_tableIn (off := 115) (tgt := 147) hx hb dL_law_32 (by decide) (by decide) (by decide) (by decide) (law_add C hin hR hPx hPm hS hl kk)
      | 2, _ => exact lv_tableIn (off := 128) (tgt := 160) hx hb dL_law_32 (by decide) (by decide) (by decide) (by decide) (law_clear C hin hR hPx hPm hS hl kk)
      | 3, _ => exact lv_tableIn (off := 141) (tgt := 173) hx hb dL_law_32 (by decide) (by decide) (by decide) (by decide) (law_remove C hin hR hPx hPm hS hl kk)
      | 4, _ => exact lv_tableIn (off := 164) (tgt := 196) hx hb dL_law_32 (by decide) (by decide) (by decide) (by decide) (law_price C hin hR hPx hPm hS hl kk)
      | 5, _ => exact lv_tableIn (off := 197) (tgt := 229) hx hb dL_law_32 (by decide) (by decide) (by decide) (by decide) (law_conditions C hin hR hPx hPm hS hl kk)
      | 6, _ => exact lv_tableIn (off := 210) (tgt := 242) hx hb dL_law_32 (by decide) (by decide) (by decide) (by decide) (law_possible C hin hR hPx hPm hS hl kk)
      | 7, _ => exact lv_tableIn (off := 233) (tgt := 265) hx hb dL_law_32 (by decide) (by decide) (by decide) (by decide) (law_model C hin hR hPx hPm hS hl kk)
      | 8, _ => exact lv_tableIn (off := 256) (tgt := 288) hx hb dL_law_32 (by decide) (by decide) (by decide) (by decide) (law_kernels C hin hR hPx hPm hS hl kk)
      | 9, _ => exact lv_tableIn (off := 269) (tgt := 301) hx hb dL_law_32 (by decide) (by decide) (by decide) (by decide) (law_kernel C hin hR hPx hPm hS hl kk)
      | 10, _ => exact lv_tableIn (off := 292) (tgt := 324) hx hb dL_law_32 (by decide) (by decide) (by decide) (by decide) (law_corrections C hin hR hPx hPm hS hl kk)
      | 11, _ => exact lv_tableIn (off := 305) (tgt := 337) hx hb dL_law_32 (by decide) (by decide) (by decide) (by decide) (law_correction C hin hR hPx hPm hS hl kk)
      | 12, _ => exact lv_tableIn (off := 328) (tgt := 360) hx hb dL_law_32 (by decide) (by decide) (by decide) (by decide) (law_cheapest C hin hR hPx hPm hS hl kk)
      | 13, _ => exact lv_tableIn (off := 341) (tgt := 373) hx hb dL_law_32 (by decide) (by decide) (by decide) (by decide) (law_cheapestSet C hin hR hPx hPm hS hl kk)
      | 14, _ => exact lv_tableIn (off := 354) (tgt := 386) hx hb dL_law_32 (by decide) (by decide) (by decide) (by decide) (law_smallest C hin hR hPx hPm hS hl kk)
      | 15, _ => exact lv_tableIn (off := 367) (tgt := 399) hx hb dL_law_32 (by decide) (by decide) (by decide) (by decide) (law_blame C hin hR hPx hPm hS hl kk)
      | 16, _ => exact lv_tableIn (off := 390) (tgt := 422) hx hb dL_law_32 (by decide) (by decide) (by decide) (by decide) (law_core C hin hR hPx hPm hS hl kk)
      | 17, _ => exact lv_tableIn (off := 403) (tgt := 435) hx hb dL_law_32 (by decide) (by decide) (by decide) (by decide) (law_sort C hin hR hPx hPm hS hl kk)
      | 18, _ => exact lv_tableIn (off := 426) (tgt := 458) hx hb dL_law_32 (by decide) (by decide) (by decide) (by decide) (law_width C hin hR hPx hPm hS hl kk)
      | k + 19, z => exact absurd z (by omega)
    · exact lv_tableOut (tgt := 481) hx hb dL_law_32 (Or.inr (sw_out j hj z)) (by decide) (kk x y H locs hR hPx hPm hS)
theorem xw_apart {q : Nat → Nat} {d : Nat → ClassId} {u : XS} {A : Nat → Prop} (h : va_D A (xwS q d u)) : gJ 7 q ∧ ∀ i, i < 7 → A (q i) := by
  have key : ∀ i, i < 7 → ∃ x, (xwS q d u)[i]? = some x ∧ x.1 = q i := by
    intro i hi
    match i, hi with
    | 0, _ => exact ⟨_, rfl, rfl⟩
    | 1, _ => exact ⟨_, rfl, rfl⟩
    | 2, _ => exact ⟨_, rfl, rfl⟩
    | 3, _ => exact ⟨_, rfl, rfl⟩
    | 4, _ => exact ⟨_, rfl, rfl⟩
    | 5, _ => exact ⟨_, rfl, rfl⟩
    | 6, _ => exact ⟨_, rfl, rfl⟩
    | i + 7, hi => exact absurd hi (by omega)
  refine ⟨fun i j hi hj e => ?_, fun i hi => ?_⟩
  · obtain ⟨x, a1, a2⟩ := key i hi
    obtain ⟨y, b1, b2⟩ := key j hj
    exact h.1 i j x y a1 b1 (by rw [a2, b2, e])
  · obtain ⟨x, a1, a2⟩ := key i hi
    rw [← a2]
    exact h.2 i x a1
theorem mw_apart {q : Nat → Nat} {d : Nat → ClassId} {u : MS} {A : Nat → Prop} (h : va_D A (mwS q d u)) : gJ 4 q ∧ ∀ i, i < 4 → A (q i) := by
  have key : ∀ i, i < 4 → ∃ x, (mwS q d u)[i]? = some x ∧ x.1 = q i := by
    intro i hi
    match i, hi with
    | 0, _ => exact ⟨_, rfl, rfl⟩
    | 1, _ => exact ⟨_, rfl, rfl⟩
    | 2, _ => exact ⟨_, rfl, rfl⟩
    | 3, _ => exact ⟨_, rfl, rfl⟩
    | i + 4, hi => exact absurd hi (by omega)
  refine ⟨fun i j hi hj e => ?_, fun i hi => ?_⟩
  · obtain ⟨x, a1, a2⟩ := key i hi
    obtain ⟨y, b1, b2⟩ := key j hj
    exact h.1 i j x y a1 b1 (by rw [a2, b2, e])
  · obtain ⟨x, a1, a2⟩ := key i hi
    rw [← a2]
    exact h.2 i x a1
theorem rel_new : Rel sX0_new sX1_new := ⟨fun _ => 0, fun _ => 0, fun _ => 0, fun _ => 0, fun _ => 0, fun _ => 0, 0, 0, 0, 0, 0, fun _ => 0, fun _ => 0, fun _ => 0, 0, by rw [nI_0], by rw [nI_0], by decide, DOK_0 _, fun j hj => absurd hj (Nat.not_lt_zero j), fun j hj => absurd hj (Nat.not_lt_zero j), Or.inl rfl⟩
theorem xm_sep {q q2 : Nat → Nat} {d d2 : Nat → ClassId} {x : XS} {y : MS} {A : Nat → Prop} (h : va_D A (xwS q d x ++ mwS q2 d2 y)) : ∀ i j, i < 7 → j < 4 → q i ≠ q2 j := by
  intro i j hi hj e
  have kx : ∃ z, (xwS q d x ++ mwS q2 d2 y)[i]? = some z ∧ z.1 = q i := by
    match i, hi with
    | 0, _ => exact ⟨_, rfl, rfl⟩
    | 1, _ => exact ⟨_, rfl, rfl⟩
    | 2, _ => exact ⟨_, rfl, rfl⟩
    | 3, _ => exact ⟨_, rfl, rfl⟩
    | 4, _ => exact ⟨_, rfl, rfl⟩
    | 5, _ => exact ⟨_, rfl, rfl⟩
    | 6, _ => exact ⟨_, rfl, rfl⟩
    | i + 7, hi => exact absurd hi (by omega)
  have km : ∃ z, (xwS q d x ++ mwS q2 d2 y)[7 + j]? = some z ∧ z.1 = q2 j := by
    match j, hj with
    | 0, _ => exact ⟨_, rfl, rfl⟩
    | 1, _ => exact ⟨_, rfl, rfl⟩
    | 2, _ => exact ⟨_, rfl, rfl⟩
    | 3, _ => exact ⟨_, rfl, rfl⟩
    | j + 4, hj => exact absurd hj (by omega)
  obtain ⟨z1, a1, a2⟩ := kx
  obtain ⟨z2, b1, b2⟩ := km
  have := h.1 i (7 + j) z1 z2 a1 b1 (by rw [a2, b2, e])
  omega
set_option maxHeartbeats 4000000 in
/-- the law from its entry, for every script of at most 192 ints -/
theorem whole_start {p : Program} {e : Env} {s : State} {m : MethodId} {below : List Frame} {meth : Method} {c : Code} (l : Launch) {b L : Nat} {xs : Nat → Int32} (hL : L ≤ 192) (C0 : lw_At p s m meth c b L xs) : W p l e room_1 s m #[Value.ref b] below meth c s.heap [] 0 0 (lw_Z below #[Value.ref b] s) (entryFrame m ([Value.ref b] : List Value).toArray 4) := by
  obtain ⟨hx, hb, hr, hml, hown, hts0, hX, hbl, hlocks, hgv⟩ := id C0
  have hts : ∀ w ∈ lw_all, w.before #[Value.ref b] s = true := fun w h => hts0 w (lw_all_tbl h)
  have hown : s.vm.findClass "ConflictSetsLaw" = some m.cls := hown
  have hA : ∀ q : Nat, s.heap.size ≤ q → (fun a : Nat => s.heap.size ≤ a) q := fun _ h => h
  obtain ⟨c0, iS0, hKn0⟩ := u_known (C := RX0) (T := TX0) (N := 11) (n := 11) hts in_X0 (hts _ q29)
  obtain ⟨c1, iS1, hKn1⟩ := u_known (C := RX1) (T := TX1) (N := 5) (n := 5) hts in_X1 (hts _ q207)
  obtain ⟨D, hKc⟩ : ∃ D : va_G, ∀ (k : Nat) (q : vw_C), vwCl[k]? = some q → u_Kn s q.1 q.2.1 q.2.2 (D.1 k) (D.2 k) := by
    refine ⟨(fun k => if k = 0 then c0 else c1, fun k => if k = 0 then iS0 else iS1), ?_⟩
    intro k q hq
    match k, hq with
    | 0, hq => cases hq; exact hKn0
    | 1, hq => cases hq; exact hKn1
    | k + 2, hq => simp [vwCl] at hq
  have hS : va_S (fun a : Nat => s.heap.size ≤ a) s.heap s.heap [] := va_S.rf
  have hK0 : va_K D vwCl [] s := ⟨hKc, fun k q h => by simp at h⟩
  have hP : va_P D vwCl [] s.heap := fun k q h => by simp at h
  have hD : va_D (fun a : Nat => s.heap.size ≤ a) [] := ⟨fun i j p q h => by simp at h, fun k q h => by simp at h⟩
  have hl := lv_entry ([.ref b]) (n := 4) (Nat.le_of_ble_eq_true rfl)
  rw [lg_entry_eq]
  generalize (lg_sl ([.ref b]) ++ List.replicate (4 - (lg_sl ([.ref b])).length) Slot.unset).toArray = ls at hl ⊢
  have hl : lv_has ls 4 [(0, .ref b)] := hl
  refine va_new (ci := 0) (fs := fX0_new) (C := RX0) (T := TX0) (N := 11) hx hb hts in_X0 tyX0 tyX0_ok hown (hts _ q28) (hts _ q29) (hts _ q26) hK0 hP hD hS hA rfl (fun j hj => by rcases (show j = 0 ∨ j = 1 ∨ j = 2 ∨ j = 3 ∨ j = 4 ∨ j = 5 ∨ j = 6 ∨ j = 7 ∨ j = 8 ∨ j = 9 ∨ j = 10 by omega) with rfl | rfl | rfl | rfl | rfl | rfl | rfl | rfl | rfl | rfl | rfl <;> rfl) (Nat.le_of_ble_eq_true rfl) (Nat.le_of_ble_eq_true rfl) dL_law_0 (fun a0 H hP hD hS => ?_)
  have hPc : va_P D vwCl (wX0_new a0) H := hP
  have hD : va_D (fun a : Nat => s.heap.size ≤ a) (wX0_new a0) := hD
  refine W.widen (k := 1) (n := 11) (Nat.le_of_ble_eq_true rfl) (Nat.le_of_ble_eq_true rfl) ?_
  refine lv_dup hx hb dL_law_3 rfl ?_
  have hFc := va_free (wc := wX0_new a0) hD hS hA [0] rfl
  refine va_callv (va_runI (As := []) (rest := [.ref a0]) ⟨hx, hb, hml, hown, hts⟩ (mX0_init l D a0 H.size) (cwI 0 hts (lw_meth q32) rfl rfl rfl (hts _ q26) (hts _ q30) (hts _ q31) rfl (by decide +kernel) ⟨Nat.le_of_ble_eq_true rfl, Nat.le_of_ble_eq_true rfl⟩) ⟨fun a U g mk q => by obtain ⟨q0, q1, qP, qK⟩ := q; exact ⟨q0, q1, qP, va_K.moved (u := U) (U := U.calling g mk a) (Vm.Alike.refl U.vm) qK⟩, fun U hU hW => ⟨rfl, by rw [hU], by rw [hU]; exact hPc, va_K.moved hW.alike hK0⟩⟩ rfl rfl hl.1 rfl (lv_room (Nat.le_of_ble_eq_true rfl)) dL_law_4 ⟨Nat.le_of_ble_eq_true rfl, Nat.le_of_ble_eq_true rfl⟩) hS (fun q _ h => hFc q h) hFc (fun u t H1 locs ht hvm hw hB hz1 hk1 hS => ?_)
  obtain ⟨q, d⟩ := u
  obtain ⟨hP1, hKx, hD1⟩ := hB
  rw [ht] at hP1
  have hKx : va_K D vwCl (xt d) s := va_K.moved hvm.symm hKx
  have hw : q 0 = a0 := hw
  subst hw
  have hP : va_P D vwCl (xwS q d sX0_new) H1 := hP1
  have hD : va_D (fun a : Nat => s.heap.size ≤ a) (xwS q d sX0_new) := hD1.weaken (fun k x _ h => hFc x.1 h)
  generalize H1 = H at hP hS ⊢
  refine W.widen (k := 7) (n := 301) (Nat.le_of_ble_eq_true rfl) (Nat.le_of_ble_eq_true rfl) ?_
  refine lv_astore_n (lv' := [(1, .ref (q 0)), (0, .ref b)]) hx hb dL_law_7 rfl hl (by decide) rfl (fun ls hl => ?_)
  refine va_new (ci := 1) (fs := fX1_new) (C := RX1) (T := TX1) (N := 5) hx hb hts in_X1 tyX1 tyX1_ok hown (hts _ q206) (hts _ q207) (hts _ q27) hK0 hP hD hS hA rfl (fun j hj => by rcases (show j = 0 ∨ j = 1 ∨ j = 2 ∨ j = 3 ∨ j = 4 by omega) with rfl | rfl | rfl | rfl | rfl <;> rfl) (Nat.le_of_ble_eq_true rfl) (Nat.le_of_ble_eq_true rfl) dL_law_8 (fun a2 H hP hD hS => ?_)
  have hPc : va_P D vwCl (wX1_new a2) H := hP.sub [7] rfl
  refine W.widen (k := 8) (n := 306) (Nat.le_of_ble_eq_true rfl) (Nat.le_of_ble_eq_true rfl) ?_
  refine lv_dup hx hb dL_law_11 rfl ?_
  have hFc := va_free (wc := wX1_new a2) hD hS hA [7] rfl
  refine va_callv (va_runI (As := []) (rest := [.ref a2]) ⟨hx, hb, hml, hown, hts⟩ (mX1_init l D a2 H.size) (cwI 0 hts (lw_meth q210) rfl rfl rfl (hts _ q27) (hts _ q208) (hts _ q209) rfl (by decide +kernel) ⟨Nat.le_of_ble_eq_true rfl, Nat.le_of_ble_eq_true rfl⟩) ⟨fun a U g mk q => by obtain ⟨q0, q1, qP, qK⟩ := q; exact ⟨q0, q1, qP, va_K.moved (u := U) (U := U.calling g mk a) (Vm.Alike.refl U.vm) qK⟩, fun U hU hW => ⟨rfl, by rw [hU], by rw [hU]; exact hPc, va_K.moved hW.alike hK0⟩⟩ rfl rfl hl.1 rfl (lv_room (Nat.le_of_ble_eq_true rfl)) dL_law_12 ⟨Nat.le_of_ble_eq_true rfl, Nat.le_of_ble_eq_true rfl⟩) hS (fun q _ h => hFc q h) hFc (fun u t H1 locs ht hvm hw hB hz1 hk1 hS => ?_)
  obtain ⟨q2, d2⟩ := u
  obtain ⟨hP1, hKm, hD1⟩ := hB
  rw [ht] at hP1
  have hKm : va_K D vwCl (mt d2) s := va_K.moved hvm.symm hKm
  have hw : q2 0 = a2 := hw
  subst hw
  obtain ⟨hP, hD⟩ := va_join (wr := xwS q d sX0_new) (w1 := mwS q2 d2 sX1_new) hP hD [7] [0, 1, 2, 3, 4, 5, 6] rfl rfl (by decide) (by decide) hk1 hFc hP1 hD1
  generalize H1 = H at hP hP1 hS ⊢
  have hPx : va_P D vwCl (xwS q d sX0_new) H := hP.sub [0, 1, 2, 3, 4, 5, 6] rfl
  have hDx : va_D (fun a : Nat => s.heap.size ≤ a) (xwS q d sX0_new) := hD.sub [0, 1, 2, 3, 4, 5, 6] (by decide) rfl
  have hDm : va_D (fun a : Nat => s.heap.size ≤ a) (mwS q2 d2 sX1_new) := hD.sub [7, 8, 9, 10] (by decide) rfl
  obtain ⟨hqx, hax⟩ := xw_apart hDx
  obtain ⟨hqm, ham⟩ := mw_apart hDm
  refine W.widen (k := 600000) (n := 7290000) (Nat.le_of_ble_eq_true rfl) (Nat.le_of_ble_eq_true rfl) ?_
  refine lv_astore_n (lv' := [(2, .ref (q2 0)), (1, .ref (q 0)), (0, .ref b)]) hx hb dL_law_15 rfl hl (by decide) rfl (fun ls hl => ?_)
  refine lv_iconst (v := 0) hx hb dL_law_16 (by decide) ?_
  refine lv_istore_n (lv' := [(3, .int (nI 0)), (2, .ref (q2 0)), (1, .ref (q 0)), (0, .ref b)]) hx hb dL_law_17 rfl hl (by decide) rfl (fun ls hl => ?_)
  exact law_loop ⟨hx, hb, hr, hml, hown, hts, hX, hbl, hlocks, hL, hKx, hKm, hqx, hqm, xm_sep hD, hax, ham⟩ L H locs ls ⟨0, sX0_new, sX1_new, rfl, Nat.zero_le L, rel_new, hPx, hP1, hS, lv_sub hl [3, 2, 1, 0] rfl⟩
set_option maxHeartbeats 4000000 in
theorem lw_walk (l : Launch) (b : Addr) (xs : List Int32) : MetFree l x (headSpec (Jvm.Cond.code x code maxLocals ret :: tables_1) room_1) (lw_P b xs) (fun _ _ _ _ _ => True) lw_Q := by
  refine MetFree.of_bodyS (code := code) (maxLocals := maxLocals) (ret := ret) (by decide) ?_ ?_
  · intro args s m h hn
    obtain ⟨meth, c, h1, h2, h3, h4, h5, h6, -, -⟩ := Cond.code_spec hn (atoms_spec (ws := Jvm.Cond.code x code maxLocals ret :: tables_1) h _ List.mem_cons_self)
    exact ⟨meth, c, h1, h2, h3, h4, h5, h6⟩
  · intro p e s m args below meth c s₁ B hml0 hP _
    obtain ⟨rfl, hx, hbd, hgv⟩ := hP
    obtain ⟨scr, harrAt, hlist, hof, hsmall⟩ := hx
    obtain ⟨hcb, hkn, -, -⟩ := State.arrayAt?_spec harrAt
    have hown : s.vm.findClass R_law = some m.cls := findClass_of_methodNamed B.named
    have hts0 : ∀ c ∈ (Jvm.Cond.code x code maxLocals ret :: tables_1), c.before #[Value.ref b] s = true := atoms_spec (ws := Jvm.Cond.code x code maxLocals ret :: tables_1) B.pre
    have hts : ∀ w ∈ lw_tbl, w.before #[Value.ref b] s = true := k2_hts_sels lw_privs (fun w hw => hts0 w (List.mem_cons_of_mem _ hw)) lw_privs_ok
    have hml : c.maxLocals = 4 := B.maxLocals_eq (hts0 _ List.mem_cons_self)
    have X₀ : Stand p l e room_1 s m #[Value.ref b] below meth c s₁ [] 0 0 := Stand.of_body B
    have hh0 : s₁.heap = s.heap := by rw [B.state]; rfl
    have hsz : scr.slots.size = xs.length := by rw [← Array.length_toList, hlist, List.length_map]
    have hval : ∀ j : Nat, j < xs.length → scr.slots[j]? = some (.int (xs.getD j 0)) := fun j hj => by
      rw [← Array.getElem?_toList, hlist]
      simp [hj]
    have hbl : b < s.heap.size := (Array.getElem?_eq_some_iff.mp hcb).1
    have hX : va_X b xs.length (fun j => xs.getD j 0) s s.heap := ⟨scr, hcb, hof, hkn, hsz, hval⟩
    have K : W p l e room_1 s m #[Value.ref b] below meth c s₁.heap [] 0 0 (lw_Z below #[Value.ref b] s) (entryFrame m ([Value.ref b] : List Value).toArray 4) := by
      rw [hh0]
      exact whole_start l hbd ⟨B.exec, B.bytes, B.returns, hml, hown, hts, hX, hbl, B.notSynchronized, hgv⟩
    obtain ⟨t, a1, o, b1, b2, b3⟩ := K s₁ rfl X₀
    exact ⟨t, o, a1, b1, b2, b3⟩
theorem lw_pre_spec {args : Array Value} {s : State} (h : (Jvm.Cond.and given_1 narrow_1).before args s = true) (hr : rest_1_c.before args s = true) : ∃ (b : Addr) (xs : List Int32), lw_P b xs args s := by
  have hs := flat_of_before _ h
  have hq := flat_of_before _ hr
  have hc : (Cond.count 1).before args s = true := hs _ (by decide +kernel)
  have harr : (Cond.arrayOf (.arg 0) .int).before args s = true := hs _ (by decide +kernel)
  have hle : (Cond.le (.length (.arg 0)) (.int 192)).before args s = true := hs _ (by decide +kernel)
  have hlen : (Cond.isInt (.length (.arg 0))).before args s = true := hq _ (by decide +kernel)
  have hall : (Cond.all (.arg 0) (.isInt (.elem (.arg 0) (.index 0)))).before args s = true := hq _ (by decide +kernel)
  obtain ⟨b, xs, hb, hx⟩ := State.ints_of_pre rfl harr hlen hall
  have hsm : xs.length < 2 ^ 31 := hx.choose_spec.2.2.2
  have hev : (Term.length (.arg 0)).eval args s none [] s = some (.int xs.length.toInt32) := hx.length_eval hb
  have hv := Cond.le_ints hev (show (Term.int 192).eval args s none [] s = some (.int 192) from rfl)
  have hd : xs.length.toInt32 ≤ 192 := by
    simpa [Cond.before, Cond.holds, hv] using hle
  have hN : xs.length ≤ 192 := (Int32.ofNat_le_ofNat hsm (by decide)).mp (show Int32.ofNat xs.length ≤ Int32.ofNat 192 from hd)
  exact ⟨b, xs, Cond.one_arg hc (show args[0]? = some (.ref b) from hb), hx, hN, h⟩
theorem lw_comes (l : Launch) : Comes l x (Jvm.Cond.code x code maxLocals ret :: tables_1) room_1 (fun tb e args s => Calls_1 tb e args s ∧ rest_1 tb e args s ∧ Pre_1 tb e args s)
    (fun _ _ args s o t => lw_Q args s o t) := by
  intro p e ha hc hk s m args below hf hfit hheap happ hpre
  obtain ⟨b, xs, hP⟩ := lw_pre_spec hpre.2.2 hpre.2.1
  obtain ⟨k, o, h1, h2, h3, hQ⟩ := lw_walk l b xs p e ha hc hk s m args below hf ((Spec.applies_iff_loose hf).mp happ).1 hP trivial
  exact ⟨k, o, h1, h2, h3, hQ⟩
theorem lw_frame {s t : State} {o : Outcome} {args : Array Value} (h : Framed s o t [] 600000 7290000) :
    Framed s o t (fieldLocs frame_1_writes args s ++ arrayLocs frame_1_arrays args s ++ staticLocs frame_1_statics s) 600000 7290000 := h
theorem lw_limb (L : Cond) (hL : ∀ (args : Array Value) (s t : State), L.after args s (.returned (some (.int 1))) t = true) :
    ArmFor flags0 classFile x code maxLocals ret World_1 tables_1 room_1 Calls_1 rest_1 Pre_1
      (fun tb e a s o t => postC L tb e a s o t ∧ Framed s o t (fieldLocs frame_1_writes a s ++ arrayLocs frame_1_arrays a s ++ staticLocs frame_1_statics s) 600000 7290000) := by
  intro l _ _ _ p e ha hc hk s m args below hf hfit hheap happ hpre
  obtain ⟨k, o, h1, h2, h3, rfl, hF⟩ := lw_comes l p e ha hc hk s m args below hf hfit hheap happ hpre
  exact ⟨k, _, h1, h2, h3, hL args s _, lw_frame hF⟩
theorem i_vc : Claimed_1_1 ∧ Claimed_1_2 := ⟨lw_limb limb_1_1 (fun args s t => by simp [limb_1_1, Cond.after, Cond.holds, Cond.value]), lw_limb limb_1_2 (fun args s t => Cond.after_iff.mpr (by
  first | (rw [show limb_1_2 = Cond.eq .result (.int 1) from rfl, Cond.eq_ints (x := 1) (y := 1) rfl rfl]; simp; done) | (simp [limb_1_2, Cond.value, Term.eval]; done)))⟩
end
