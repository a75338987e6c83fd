section
-- ===== PART A: goes FIRST, ahead of the names: the tables' words, and 'selects' of the private methods out of them =====
/-- a private method of a class that the tables say can be made, by its rows of tables_1 -/
def lw_okq (q : MethodName × Nat) : Prop := (q.1.cls ≠ "java/lang/invoke/MethodHandle" ∧ q.1.cls ≠ "java/lang/invoke/VarHandle") ∧ Cond.instantiable q.1.cls q.2 ∈ tables_1 ∧ Cond.privateMethod q.1 ∈ tables_1 ∧ Cond.instanceMethod q.1 ∈ tables_1
set_option maxRecDepth 100000
theorem lw_t1 {w : Cond} (h : w ∈ tables_1_1) : w ∈ tables_1 := List.mem_append_left _ h
theorem lw_t2 {w : Cond} (h : w ∈ tables_1_2) : w ∈ tables_1 := List.mem_append_right _ h
theorem lw_p0 : lw_okq (⟨"ComparatorNet", "badWire", "(I)Z"⟩, 11) := ⟨⟨by decide +kernel, by decide +kernel⟩, lw_t1 (List.mem_of_getElem? (i := 4) rfl), lw_t1 (List.mem_of_getElem? (i := 53) rfl), lw_t1 (List.mem_of_getElem? (i := 54) rfl)⟩
theorem lw_p1 : lw_okq (⟨"ComparatorNet", "pass", "()I"⟩, 11) := ⟨⟨by decide +kernel, by decide +kernel⟩, lw_t1 (List.mem_of_getElem? (i := 4) rfl), lw_t1 (List.mem_of_getElem? (i := 81) rfl), lw_t1 (List.mem_of_getElem? (i := 82) rfl)⟩
theorem lw_p2 : lw_okq (⟨"ComparatorNet", "findSets", "(II)V"⟩, 11) := ⟨⟨by decide +kernel, by decide +kernel⟩, lw_t1 (List.mem_of_getElem? (i := 4) rfl), lw_t1 (List.mem_of_getElem? (i := 93) rfl), lw_t1 (List.mem_of_getElem? (i := 94) rfl)⟩
theorem lw_p3 : lw_okq (⟨"ComparatorNet", "behind", "(II)I"⟩, 11) := ⟨⟨by decide +kernel, by decide +kernel⟩, lw_t1 (List.mem_of_getElem? (i := 4) rfl), lw_t1 (List.mem_of_getElem? (i := 97) rfl), lw_t1 (List.mem_of_getElem? (i := 98) rfl)⟩
theorem lw_p4 : lw_okq (⟨"ComparatorNet", "inPlace", "(I)Z"⟩, 11) := ⟨⟨by decide +kernel, by decide +kernel⟩, lw_t1 (List.mem_of_getElem? (i := 4) rfl), lw_t1 (List.mem_of_getElem? (i := 101) rfl), lw_t1 (List.mem_of_getElem? (i := 102) rfl)⟩
theorem lw_p5 : lw_okq (⟨"ComparatorNet", "sizeOf", "(I)I"⟩, 11) := ⟨⟨by decide +kernel, by decide +kernel⟩, lw_t1 (List.mem_of_getElem? (i := 4) rfl), lw_t1 (List.mem_of_getElem? (i := 105) rfl), lw_t1 (List.mem_of_getElem? (i := 106) rfl)⟩
theorem lw_p6 : lw_okq (⟨"ComparatorNet", "ordersAt", "(I)I"⟩, 11) := ⟨⟨by decide +kernel, by decide +kernel⟩, lw_t1 (List.mem_of_getElem? (i := 4) rfl), lw_t1 (List.mem_of_getElem? (i := 117) rfl), lw_t1 (List.mem_of_getElem? (i := 118) rfl)⟩
theorem lw_p7 : lw_okq (⟨"ComparatorNet", "lessOn", "(II)I"⟩, 11) := ⟨⟨by decide +kernel, by decide +kernel⟩, lw_t1 (List.mem_of_getElem? (i := 4) rfl), lw_t1 (List.mem_of_getElem? (i := 125) rfl), lw_t1 (List.mem_of_getElem? (i := 126) rfl)⟩
theorem lw_p8 : lw_okq (⟨"ComparatorNet", "sameWithout", "(I)Z"⟩, 11) := ⟨⟨by decide +kernel, by decide +kernel⟩, lw_t1 (List.mem_of_getElem? (i := 4) rfl), lw_t1 (List.mem_of_getElem? (i := 137) rfl), lw_t1 (List.mem_of_getElem? (i := 138) rfl)⟩
theorem lw_p9 : lw_okq (⟨"ComparatorNetModel", "noWire", "(I)Z"⟩, 9) := ⟨⟨by decide +kernel, by decide +kernel⟩, lw_t1 (List.mem_of_getElem? (i := 148) rfl), lw_t1 (List.mem_of_getElem? (i := 186) rfl), lw_t1 (List.mem_of_getElem? (i := 187) rfl)⟩
theorem lw_p10 : lw_okq (⟨"ComparatorNetModel", "is", "(I)Z"⟩, 9) := ⟨⟨by decide +kernel, by decide +kernel⟩, lw_t1 (List.mem_of_getElem? (i := 148) rfl), lw_t1 (List.mem_of_getElem? (i := 194) rfl), lw_t1 (List.mem_of_getElem? (i := 195) rfl)⟩
theorem lw_p11 : lw_okq (⟨"ComparatorNetModel", "compare", "(I)Z"⟩, 9) := ⟨⟨by decide +kernel, by decide +kernel⟩, lw_t1 (List.mem_of_getElem? (i := 148) rfl), lw_t1 (List.mem_of_getElem? (i := 218) rfl), lw_t1 (List.mem_of_getElem? (i := 219) rfl)⟩
theorem lw_p12 : lw_okq (⟨"ComparatorNetModel", "all", "()I"⟩, 9) := ⟨⟨by decide +kernel, by decide +kernel⟩, lw_t1 (List.mem_of_getElem? (i := 148) rfl), lw_t1 (List.mem_of_getElem? (i := 230) rfl), lw_t1 (List.mem_of_getElem? (i := 231) rfl)⟩
theorem lw_p13 : lw_okq (⟨"ComparatorNetModel", "firstOrder", "()V"⟩, 9) := ⟨⟨by decide +kernel, by decide +kernel⟩, lw_t1 (List.mem_of_getElem? (i := 148) rfl), lw_t1 (List.mem_of_getElem? (i := 238) rfl), lw_t1 (List.mem_of_getElem? (i := 239) rfl)⟩
theorem lw_p14 : lw_okq (⟨"ComparatorNetModel", "pass", "(I)V"⟩, 9) := ⟨⟨by decide +kernel, by decide +kernel⟩, lw_t1 (List.mem_of_getElem? (i := 148) rfl), lw_t2 (List.mem_of_getElem? (i := 2) rfl), lw_t2 (List.mem_of_getElem? (i := 3) rfl)⟩
theorem lw_p15 : lw_okq (⟨"ComparatorNetModel", "isSorted", "()Z"⟩, 9) := ⟨⟨by decide +kernel, by decide +kernel⟩, lw_t1 (List.mem_of_getElem? (i := 148) rfl), lw_t2 (List.mem_of_getElem? (i := 6) rfl), lw_t2 (List.mem_of_getElem? (i := 7) rfl)⟩
def lw_privs_1 : List (MethodName × Nat) := [(⟨"ComparatorNet", "badWire", "(I)Z"⟩, 11), (⟨"ComparatorNet", "pass", "()I"⟩, 11), (⟨"ComparatorNet", "findSets", "(II)V"⟩, 11), (⟨"ComparatorNet", "behind", "(II)I"⟩, 11), (⟨"ComparatorNet", "inPlace", "(I)Z"⟩, 11), (⟨"ComparatorNet", "sizeOf", "(I)I"⟩, 11), (⟨"ComparatorNet", "ordersAt", "(I)I"⟩, 11), (⟨"ComparatorNet", "lessOn", "(II)I"⟩, 11), (⟨"ComparatorNet", "sameWithout", "(I)Z"⟩, 11), (⟨"ComparatorNetModel", "noWire", "(I)Z"⟩, 9), (⟨"ComparatorNetModel", "is", "(I)Z"⟩, 9), (⟨"ComparatorNetModel", "compare", "(I)Z"⟩, 9), (⟨"ComparatorNetModel", "all", "()I"⟩, 9), (⟨"ComparatorNetModel", "firstOrder", "()V"⟩, 9), (⟨"ComparatorNetModel", "pass", "(I)V"⟩, 9), (⟨"ComparatorNetModel", "isSorted", "()Z"⟩, 9)]
theorem lw_r1 : ∀ q ∈ lw_privs_1, lw_okq q := List.forall_mem_cons.mpr ⟨lw_p0, List.forall_mem_cons.mpr ⟨lw_p1, List.forall_mem_cons.mpr ⟨lw_p2, List.forall_mem_cons.mpr ⟨lw_p3, List.forall_mem_cons.mpr ⟨lw_p4, List.forall_mem_cons.mpr ⟨lw_p5, List.forall_mem_cons.mpr ⟨lw_p6, List.forall_mem_cons.mpr ⟨lw_p7, List.forall_mem_cons.mpr ⟨lw_p8, List.forall_mem_cons.mpr ⟨lw_p9, List.forall_mem_cons.mpr ⟨lw_p10, List.forall_mem_cons.mpr ⟨lw_p11, List.forall_mem_cons.mpr ⟨lw_p12, List.forall_mem_cons.mpr ⟨lw_p13, List.forall_mem_cons.mpr ⟨lw_p14, List.forall_mem_cons.mpr ⟨lw_p15, fun _ h => absurd h List.not_mem_nil⟩⟩⟩⟩⟩⟩⟩⟩⟩⟩⟩⟩⟩⟩⟩⟩
theorem lw_p16 : lw_okq (⟨"ComparatorNetModel", "nextOrder", "()Z"⟩, 9) := ⟨⟨by decide +kernel, by decide +kernel⟩, lw_t1 (List.mem_of_getElem? (i := 148) rfl), lw_t2 (List.mem_of_getElem? (i := 10) rfl), lw_t2 (List.mem_of_getElem? (i := 11) rfl)⟩
theorem lw_p17 : lw_okq (⟨"ComparatorNetModel", "same", "(I)Z"⟩, 9) := ⟨⟨by decide +kernel, by decide +kernel⟩, lw_t1 (List.mem_of_getElem? (i := 148) rfl), lw_t2 (List.mem_of_getElem? (i := 31) rfl), lw_t2 (List.mem_of_getElem? (i := 32) rfl)⟩
def lw_privs_2 : List (MethodName × Nat) := [(⟨"ComparatorNetModel", "nextOrder", "()Z"⟩, 9), (⟨"ComparatorNetModel", "same", "(I)Z"⟩, 9)]
theorem lw_r2 : ∀ q ∈ lw_privs_2, lw_okq q := List.forall_mem_cons.mpr ⟨lw_p16, List.forall_mem_cons.mpr ⟨lw_p17, fun _ h => absurd h List.not_mem_nil⟩⟩
def lw_privs : List (MethodName × Nat) := lw_privs_1 ++ (lw_privs_2)
def lw_tbl : List Cond := k2_sels lw_privs ++ tables_1
theorem lw_privs_ok : ∀ q ∈ lw_privs, lw_okq q := by
  show ∀ q ∈ lw_privs_1 ++ (lw_privs_2), lw_okq q
  exact List.forall_mem_append.mpr ⟨lw_r1, lw_r2⟩
-- ===== ONE list of words for every method: the tables' words that hold all through a run =====
def lw_all : List Cond := lw_tbl.filter goodWord
/-- a word of the tables by its place: claim/WORDS.tsv -/
theorem lw_w {w : Cond} (i : Nat) (h : lw_tbl[i]? = some w) (g : goodWord w = true) : w ∈ lw_all := List.mem_filter.mpr ⟨List.mem_of_getElem? h, g⟩
theorem lw_all_tbl {w : Cond} (h : w ∈ lw_all) : w ∈ lw_tbl := (List.mem_filter.mp h).1
theorem lw_self : GoodIn lw_all lw_all := fun w h => ⟨h, good_of_word (List.mem_filter.mp h).2⟩
/-- a class's field words, by their places -/
theorem lw_in (ws : List Cond) (ps : List Nat) (hp : ws = ps.filterMap (fun i => lw_tbl[i]?)) (hg : ws.all goodWord = true) : ∀ w ∈ ws, w ∈ lw_all := by
  intro w h
  have h1 := List.all_eq_true.mp hg w h
  rw [hp] at h
  obtain ⟨i, -, hi⟩ := List.mem_filterMap.mp h
  exact lw_w i hi h1
/-- the words of a contract for the method y with code b, L locals, answer r -/
abbrev ws_ (y : MethodName) (b : ByteArray) (L : Nat) (r : Option FieldType) : List Cond := Cond.code y b L r :: lw_all
theorem lw_meth {y : MethodName} {b : ByteArray} {L : Nat} {r : Option FieldType} (h : Cond.code y b L r ∈ lw_all) : GoodIn lw_all (ws_ y b L r) := by
  intro w hw
  rcases List.mem_cons.mp hw with e | e
  · rw [e]
    exact lw_self _ h
  · exact lw_self _ e
theorem lw_app {a c : List Cond} (ha : ∀ w ∈ a, w ∈ lw_all) (hc : GoodIn lw_all c) : GoodIn lw_all (a ++ c) := by
  intro w hw
  rcases List.mem_append.mp hw with e | e
  · exact lw_self w (ha w e)
  · exact hc w e
/-- what a call through an object asks: cwV n hts (lw_V ..) -/
theorem lw_V {own : String} {idx : Nat} {C : String} {y : MethodName} {b : ByteArray} {L : Nat} {r : Option FieldType} (h1 : Cond.methodLink own idx y ∈ lw_all) (h2 : Cond.instanceMethod y ∈ lw_all) (h3 : Cond.selects C y y ∈ lw_all) (h4 : Cond.initialized C ∈ lw_all) (h5 : Cond.code y b L r ∈ lw_all) : GoodIn lw_all (wsV own idx C y (ws_ y b L r)) := by
  refine lw_app ?_ (lw_meth h5)
  intro w hw
  simp only [List.mem_cons, List.not_mem_nil, or_false] at hw
  rcases hw with e | e | e | e
  · rw [e]; exact h1
  · rw [e]; exact h2
  · rw [e]; exact h3
  · rw [e]; exact h4
/-- what a static call asks: va_cwS n hts (lw_S ..) -/
theorem lw_S {own : String} {idx : Nat} {y : MethodName} {b : ByteArray} {L : Nat} {r : Option FieldType} (h1 : Cond.methodLink own idx y ∈ lw_all) (h2 : Cond.static y ∈ lw_all) (h3 : Cond.initialized y.cls ∈ lw_all) (h4 : Cond.code y b L r ∈ lw_all) : GoodIn lw_all (va_wsS own idx y (ws_ y b L r)) := by
  refine lw_app ?_ (lw_meth h4)
  intro w hw
  simp only [List.mem_cons, List.not_mem_nil, or_false] at hw
  rcases hw with e | e | e
  · rw [e]; exact h1
  · rw [e]; exact h2
  · rw [e]; exact h3
/-- the words of a contract for a method WITH HANDLERS (hh: its table) -/
abbrev wsW_ (y : MethodName) (b : ByteArray) (L : Nat) (r : Option FieldType) (hh : List (Nat × Nat × Nat × Nat)) : List Cond := Cond.codeWith y b L r hh :: lw_all
theorem lw_methW {y : MethodName} {b : ByteArray} {L : Nat} {r : Option FieldType} {hh : List (Nat × Nat × Nat × Nat)} (h : Cond.codeWith y b L r hh ∈ lw_all) : GoodIn lw_all (wsW_ y b L r hh) := by
  intro w hw
  rcases List.mem_cons.mp hw with e | e
  · rw [e]
    exact lw_self _ h
  · exact lw_self _ e
/-- any list of words by their places (lw_in), good -/
theorem lw_good {ws : List Cond} (h : ∀ w ∈ ws, w ∈ lw_all) : GoodIn lw_all ws := fun w hw => lw_self w (h w hw)
/-- what a call of a method with handlers asks: vx_cwVW n hts (lw_VW ..), vx_cwSW n hts (lw_SW ..) -/
theorem lw_VW {own : String} {idx : Nat} {C : String} {y : MethodName} {b : ByteArray} {L : Nat} {r : Option FieldType} {hh : List (Nat × Nat × Nat × Nat)} (h1 : Cond.methodLink own idx y ∈ lw_all) (h2 : Cond.instanceMethod y ∈ lw_all) (h3 : Cond.selects C y y ∈ lw_all) (h4 : Cond.initialized C ∈ lw_all) (h5 : Cond.codeWith y b L r hh ∈ lw_all) : GoodIn lw_all (wsV own idx C y (wsW_ y b L r hh)) := by
  refine lw_app ?_ (lw_methW h5)
  intro w hw
  simp only [List.mem_cons, List.not_mem_nil, or_false] at hw
  rcases hw with e | e | e | e
  · rw [e]; exact h1
  · rw [e]; exact h2
  · rw [e]; exact h3
  · rw [e]; exact h4
theorem lw_SW {own : String} {idx : Nat} {y : MethodName} {b : ByteArray} {L : Nat} {r : Option FieldType} {hh : List (Nat × Nat × Nat × Nat)} (h1 : Cond.methodLink own idx y ∈ lw_all) (h2 : Cond.static y ∈ lw_all) (h3 : Cond.initialized y.cls ∈ lw_all) (h4 : Cond.codeWith y b L r hh ∈ lw_all) : GoodIn lw_all (va_wsS own idx y (wsW_ y b L r hh)) := by
  refine lw_app ?_ (lw_methW h4)
  intro w hw
  simp only [List.mem_cons, List.not_mem_nil, or_false] at hw
  rcases hw with e | e | e
  · rw [e]; exact h1
  · rw [e]; exact h2
  · rw [e]; exact h3
/-- a word by its place in its run of the tables -/
theorem lw_at {r : List Cond} (hr : ∀ w ∈ r, w ∈ lw_tbl) {w : Cond} (i : Nat) (h : r[i]? = some w) : w ∈ lw_tbl := hr w (List.mem_of_getElem? h)
theorem lw_g {w : Cond} (h : w ∈ lw_tbl) (g : goodWord w = true) : w ∈ lw_all := List.mem_filter.mpr ⟨h, g⟩
theorem lw_ms : ∀ w ∈ k2_sels lw_privs, w ∈ lw_tbl := fun w h => show w ∈ k2_sels lw_privs ++ tables_1 from List.mem_append_left _ h
theorem lw_m1 : ∀ w ∈ tables_1_1, w ∈ lw_tbl := fun w h => show w ∈ k2_sels lw_privs ++ tables_1 from List.mem_append_right (k2_sels lw_privs) (show w ∈ tables_1 from List.mem_append_left _ h)
theorem lw_m2 : ∀ w ∈ tables_1_2, w ∈ lw_tbl := fun w h => show w ∈ k2_sels lw_privs ++ tables_1 from List.mem_append_right (k2_sels lw_privs) (show w ∈ tables_1 from List.mem_append_right _ h)
theorem qs0 : (Cond.selects "ComparatorNet" ⟨"ComparatorNet", "badWire", "(I)Z"⟩ ⟨"ComparatorNet", "badWire", "(I)Z"⟩) ∈ lw_all := lw_g (lw_at lw_ms 0 rfl) rfl
theorem qs1 : (Cond.selects "ComparatorNet" ⟨"ComparatorNet", "pass", "()I"⟩ ⟨"ComparatorNet", "pass", "()I"⟩) ∈ lw_all := lw_g (lw_at lw_ms 1 rfl) rfl
theorem qs2 : (Cond.selects "ComparatorNet" ⟨"ComparatorNet", "findSets", "(II)V"⟩ ⟨"ComparatorNet", "findSets", "(II)V"⟩) ∈ lw_all := lw_g (lw_at lw_ms 2 rfl) rfl
theorem qs3 : (Cond.selects "ComparatorNet" ⟨"ComparatorNet", "behind", "(II)I"⟩ ⟨"ComparatorNet", "behind", "(II)I"⟩) ∈ lw_all := lw_g (lw_at lw_ms 3 rfl) rfl
theorem qs4 : (Cond.selects "ComparatorNet" ⟨"ComparatorNet", "inPlace", "(I)Z"⟩ ⟨"ComparatorNet", "inPlace", "(I)Z"⟩) ∈ lw_all := lw_g (lw_at lw_ms 4 rfl) rfl
theorem qs5 : (Cond.selects "ComparatorNet" ⟨"ComparatorNet", "sizeOf", "(I)I"⟩ ⟨"ComparatorNet", "sizeOf", "(I)I"⟩) ∈ lw_all := lw_g (lw_at lw_ms 5 rfl) rfl
theorem qs6 : (Cond.selects "ComparatorNet" ⟨"ComparatorNet", "ordersAt", "(I)I"⟩ ⟨"ComparatorNet", "ordersAt", "(I)I"⟩) ∈ lw_all := lw_g (lw_at lw_ms 6 rfl) rfl
theorem qs7 : (Cond.selects "ComparatorNet" ⟨"ComparatorNet", "lessOn", "(II)I"⟩ ⟨"ComparatorNet", "lessOn", "(II)I"⟩) ∈ lw_all := lw_g (lw_at lw_ms 7 rfl) rfl
theorem qs8 : (Cond.selects "ComparatorNet" ⟨"ComparatorNet", "sameWithout", "(I)Z"⟩ ⟨"ComparatorNet", "sameWithout", "(I)Z"⟩) ∈ lw_all := lw_g (lw_at lw_ms 8 rfl) rfl
theorem qs9 : (Cond.selects "ComparatorNetModel" ⟨"ComparatorNetModel", "noWire", "(I)Z"⟩ ⟨"ComparatorNetModel", "noWire", "(I)Z"⟩) ∈ lw_all := lw_g (lw_at lw_ms 9 rfl) rfl
theorem qs10 : (Cond.selects "ComparatorNetModel" ⟨"ComparatorNetModel", "is", "(I)Z"⟩ ⟨"ComparatorNetModel", "is", "(I)Z"⟩) ∈ lw_all := lw_g (lw_at lw_ms 10 rfl) rfl
theorem qs11 : (Cond.selects "ComparatorNetModel" ⟨"ComparatorNetModel", "compare", "(I)Z"⟩ ⟨"ComparatorNetModel", "compare", "(I)Z"⟩) ∈ lw_all := lw_g (lw_at lw_ms 11 rfl) rfl
theorem qs12 : (Cond.selects "ComparatorNetModel" ⟨"ComparatorNetModel", "all", "()I"⟩ ⟨"ComparatorNetModel", "all", "()I"⟩) ∈ lw_all := lw_g (lw_at lw_ms 12 rfl) rfl
theorem qs13 : (Cond.selects "ComparatorNetModel" ⟨"ComparatorNetModel", "firstOrder", "()V"⟩ ⟨"ComparatorNetModel", "firstOrder", "()V"⟩) ∈ lw_all := lw_g (lw_at lw_ms 13 rfl) rfl
theorem qs14 : (Cond.selects "ComparatorNetModel" ⟨"ComparatorNetModel", "pass", "(I)V"⟩ ⟨"ComparatorNetModel", "pass", "(I)V"⟩) ∈ lw_all := lw_g (lw_at lw_ms 14 rfl) rfl
theorem qs15 : (Cond.selects "ComparatorNetModel" ⟨"ComparatorNetModel", "isSorted", "()Z"⟩ ⟨"ComparatorNetModel", "isSorted", "()Z"⟩) ∈ lw_all := lw_g (lw_at lw_ms 15 rfl) rfl
theorem qs16 : (Cond.selects "ComparatorNetModel" ⟨"ComparatorNetModel", "nextOrder", "()Z"⟩ ⟨"ComparatorNetModel", "nextOrder", "()Z"⟩) ∈ lw_all := lw_g (lw_at lw_ms 16 rfl) rfl
theorem qs17 : (Cond.selects "ComparatorNetModel" ⟨"ComparatorNetModel", "same", "(I)Z"⟩ ⟨"ComparatorNetModel", "same", "(I)Z"⟩) ∈ lw_all := lw_g (lw_at lw_ms 17 rfl) rfl
end
section
set_option maxRecDepth 100000
/-! ComparatorNet -/
def RX1 : String := "ComparatorNet"
def TX1 : u_T := fun k => match k with
  | 0 => ("ComparatorNet", "n", "I", true)
  | 1 => ("ComparatorNet", "count", "I", false)
  | 2 => ("ComparatorNet", "low", "[B", true)
  | 3 => ("ComparatorNet", "high", "[B", true)
  | 4 => ("ComparatorNet", "given", "[I", true)
  | 5 => ("ComparatorNet", "wire", "[I", true)
  | 6 => ("ComparatorNet", "becomes", "[S", true)
  | 7 => ("ComparatorNet", "whole", "[S", true)
  | 8 => ("ComparatorNet", "chains", "[I", true)
  | 9 => ("ComparatorNet", "round", "[B", true)
  | _ => ("ComparatorNet", "product", "[I", true)
def tyX1 : Nat → FieldType := fun k => match k with
  | 0 => .int
  | 1 => .int
  | 2 => .array .byte
  | 3 => .array .byte
  | 4 => .array .int
  | 5 => .array .int
  | 6 => .array .short
  | 7 => .array .short
  | 8 => .array .int
  | 9 => .array .byte
  | _ => .array .int
abbrev wsX10 : List Cond := u_ws RX1 TX1 11
theorem nmX1 : ∀ a, a < 11 → ∀ b, b < 11 → a ≠ b → (TX1 a).2.1 ≠ (TX1 b).2.1 := by decide +kernel
theorem tyX1_ok : ∀ k, k < 11 → parseFieldDescriptor (TX1 k).2.2.1 = some (tyX1 k) := by decide +kernel
abbrev cX1_init : ByteArray := prog_1_method_1_code
def yX1_init : MethodName := ⟨RX1, "<init>", "(I)V"⟩
theorem dX1_init_0 : decode cX1_init 0 = .ok (.aload_n 0, 1) := by decide +kernel
theorem dX1_init_1 : decode cX1_init 1 = .ok (.invokespecial 1, 3) := by decide +kernel
theorem dX1_init_4 : decode cX1_init 4 = .ok (.aload_n 0, 1) := by decide +kernel
theorem dX1_init_5 : decode cX1_init 5 = .ok (.bipush 24, 2) := by decide +kernel
theorem dX1_init_7 : decode cX1_init 7 = .ok (.newarray .byte, 2) := by decide +kernel
theorem dX1_init_9 : decode cX1_init 9 = .ok (.putfield 7, 3) := by decide +kernel
theorem dX1_init_12 : decode cX1_init 12 = .ok (.aload_n 0, 1) := by decide +kernel
theorem dX1_init_13 : decode cX1_init 13 = .ok (.bipush 24, 2) := by decide +kernel
theorem dX1_init_15 : decode cX1_init 15 = .ok (.newarray .byte, 2) := by decide +kernel
theorem dX1_init_17 : decode cX1_init 17 = .ok (.putfield 13, 3) := by decide +kernel
theorem dX1_init_20 : decode cX1_init 20 = .ok (.aload_n 0, 1) := by decide +kernel
theorem dX1_init_21 : decode cX1_init 21 = .ok (.bipush 7, 2) := by decide +kernel
theorem dX1_init_23 : decode cX1_init 23 = .ok (.newarray .int, 2) := by decide +kernel
theorem dX1_init_25 : decode cX1_init 25 = .ok (.putfield 16, 3) := by decide +kernel
theorem dX1_init_28 : decode cX1_init 28 = .ok (.aload_n 0, 1) := by decide +kernel
theorem dX1_init_29 : decode cX1_init 29 = .ok (.bipush 7, 2) := by decide +kernel
theorem dX1_init_31 : decode cX1_init 31 = .ok (.newarray .int, 2) := by decide +kernel
theorem dX1_init_33 : decode cX1_init 33 = .ok (.putfield 20, 3) := by decide +kernel
theorem dX1_init_36 : decode cX1_init 36 = .ok (.aload_n 0, 1) := by decide +kernel
theorem dX1_init_37 : decode cX1_init 37 = .ok (.sipush 128, 3) := by decide +kernel
theorem dX1_init_40 : decode cX1_init 40 = .ok (.newarray .short, 2) := by decide +kernel
theorem dX1_init_42 : decode cX1_init 42 = .ok (.putfield 23, 3) := by decide +kernel
theorem dX1_init_45 : decode cX1_init 45 = .ok (.aload_n 0, 1) := by decide +kernel
theorem dX1_init_46 : decode cX1_init 46 = .ok (.sipush 128, 3) := by decide +kernel
theorem dX1_init_49 : decode cX1_init 49 = .ok (.newarray .short, 2) := by decide +kernel
theorem dX1_init_51 : decode cX1_init 51 = .ok (.putfield 27, 3) := by decide +kernel
theorem dX1_init_54 : decode cX1_init 54 = .ok (.aload_n 0, 1) := by decide +kernel
theorem dX1_init_55 : decode cX1_init 55 = .ok (.sipush 128, 3) := by decide +kernel
theorem dX1_init_58 : decode cX1_init 58 = .ok (.newarray .int, 2) := by decide +kernel
theorem dX1_init_60 : decode cX1_init 60 = .ok (.putfield 30, 3) := by decide +kernel
theorem dX1_init_63 : decode cX1_init 63 = .ok (.aload_n 0, 1) := by decide +kernel
theorem dX1_init_64 : decode cX1_init 64 = .ok (.bipush 7, 2) := by decide +kernel
theorem dX1_init_66 : decode cX1_init 66 = .ok (.newarray .byte, 2) := by decide +kernel
theorem dX1_init_68 : decode cX1_init 68 = .ok (.putfield 33, 3) := by decide +kernel
theorem dX1_init_71 : decode cX1_init 71 = .ok (.aload_n 0, 1) := by decide +kernel
theorem dX1_init_72 : decode cX1_init 72 = .ok (.bipush 8, 2) := by decide +kernel
theorem dX1_init_74 : decode cX1_init 74 = .ok (.newarray .int, 2) := by decide +kernel
theorem dX1_init_76 : decode cX1_init 76 = .ok (.putfield 36, 3) := by decide +kernel
theorem dX1_init_79 : decode cX1_init 79 = .ok (.aload_n 0, 1) := by decide +kernel
theorem dX1_init_80 : decode cX1_init 80 = .ok (.iload_n 1, 1) := by decide +kernel
theorem dX1_init_81 : decode cX1_init 81 = .ok (.iconst 2, 1) := by decide +kernel
theorem dX1_init_82 : decode cX1_init 82 = .ok (.if_icmp .ge 7, 3) := by decide +kernel
theorem dX1_init_85 : decode cX1_init 85 = .ok (.iconst 2, 1) := by decide +kernel
theorem dX1_init_86 : decode cX1_init 86 = .ok (.goto 15, 3) := by decide +kernel
theorem dX1_init_89 : decode cX1_init 89 = .ok (.iload_n 1, 1) := by decide +kernel
theorem dX1_init_90 : decode cX1_init 90 = .ok (.bipush 7, 2) := by decide +kernel
theorem dX1_init_92 : decode cX1_init 92 = .ok (.if_icmp .le 8, 3) := by decide +kernel
theorem dX1_init_95 : decode cX1_init 95 = .ok (.bipush 7, 2) := by decide +kernel
theorem dX1_init_97 : decode cX1_init 97 = .ok (.goto 4, 3) := by decide +kernel
theorem dX1_init_100 : decode cX1_init 100 = .ok (.iload_n 1, 1) := by decide +kernel
theorem dX1_init_101 : decode cX1_init 101 = .ok (.putfield 39, 3) := by decide +kernel
theorem dX1_init_104 : decode cX1_init 104 = .ok (.aload_n 0, 1) := by decide +kernel
theorem dX1_init_105 : decode cX1_init 105 = .ok (.getfield 36, 3) := by decide +kernel
theorem dX1_init_108 : decode cX1_init 108 = .ok (.iconst 0, 1) := by decide +kernel
theorem dX1_init_109 : decode cX1_init 109 = .ok (.iconst 1, 1) := by decide +kernel
theorem dX1_init_110 : decode cX1_init 110 = .ok (.iastore, 1) := by decide +kernel
theorem dX1_init_111 : decode cX1_init 111 = .ok (.iconst 1, 1) := by decide +kernel
theorem dX1_init_112 : decode cX1_init 112 = .ok (.istore_n 2, 1) := by decide +kernel
theorem dX1_init_113 : decode cX1_init 113 = .ok (.iload_n 2, 1) := by decide +kernel
theorem dX1_init_114 : decode cX1_init 114 = .ok (.bipush 8, 2) := by decide +kernel
theorem dX1_init_116 : decode cX1_init 116 = .ok (.if_icmp .ge 25, 3) := by decide +kernel
theorem dX1_init_119 : decode cX1_init 119 = .ok (.aload_n 0, 1) := by decide +kernel
theorem dX1_init_120 : decode cX1_init 120 = .ok (.getfield 36, 3) := by decide +kernel
theorem dX1_init_123 : decode cX1_init 123 = .ok (.iload_n 2, 1) := by decide +kernel
theorem dX1_init_124 : decode cX1_init 124 = .ok (.aload_n 0, 1) := by decide +kernel
theorem dX1_init_125 : decode cX1_init 125 = .ok (.getfield 36, 3) := by decide +kernel
theorem dX1_init_128 : decode cX1_init 128 = .ok (.iload_n 2, 1) := by decide +kernel
theorem dX1_init_129 : decode cX1_init 129 = .ok (.iconst 1, 1) := by decide +kernel
theorem dX1_init_130 : decode cX1_init 130 = .ok (.isub, 1) := by decide +kernel
theorem dX1_init_131 : decode cX1_init 131 = .ok (.iaload, 1) := by decide +kernel
theorem dX1_init_132 : decode cX1_init 132 = .ok (.iload_n 2, 1) := by decide +kernel
theorem dX1_init_133 : decode cX1_init 133 = .ok (.imul, 1) := by decide +kernel
theorem dX1_init_134 : decode cX1_init 134 = .ok (.iastore, 1) := by decide +kernel
theorem dX1_init_135 : decode cX1_init 135 = .ok (.iinc 2 1, 3) := by decide +kernel
theorem dX1_init_138 : decode cX1_init 138 = .ok (.goto (-25), 3) := by decide +kernel
theorem dX1_init_141 : decode cX1_init 141 = .ok (.return_, 1) := by decide +kernel
abbrev cX1_add : ByteArray := prog_1_method_3_code
def yX1_add : MethodName := ⟨RX1, "add", "(II)I"⟩
theorem dX1_add_0 : decode cX1_add 0 = .ok (.aload_n 0, 1) := by decide +kernel
theorem dX1_add_1 : decode cX1_add 1 = .ok (.iload_n 1, 1) := by decide +kernel
theorem dX1_add_2 : decode cX1_add 2 = .ok (.invokevirtual 43, 3) := by decide +kernel
theorem dX1_add_5 : decode cX1_add 5 = .ok (.ifCond .ne 16, 3) := by decide +kernel
theorem dX1_add_8 : decode cX1_add 8 = .ok (.aload_n 0, 1) := by decide +kernel
theorem dX1_add_9 : decode cX1_add 9 = .ok (.iload_n 2, 1) := by decide +kernel
theorem dX1_add_10 : decode cX1_add 10 = .ok (.invokevirtual 43, 3) := by decide +kernel
theorem dX1_add_13 : decode cX1_add 13 = .ok (.ifCond .ne 8, 3) := by decide +kernel
theorem dX1_add_16 : decode cX1_add 16 = .ok (.iload_n 1, 1) := by decide +kernel
theorem dX1_add_17 : decode cX1_add 17 = .ok (.iload_n 2, 1) := by decide +kernel
theorem dX1_add_18 : decode cX1_add 18 = .ok (.if_icmp .ne 5, 3) := by decide +kernel
theorem dX1_add_21 : decode cX1_add 21 = .ok (.iconst (-1), 1) := by decide +kernel
theorem dX1_add_22 : decode cX1_add 22 = .ok (.ireturn, 1) := by decide +kernel
theorem dX1_add_23 : decode cX1_add 23 = .ok (.aload_n 0, 1) := by decide +kernel
theorem dX1_add_24 : decode cX1_add 24 = .ok (.getfield 47, 3) := by decide +kernel
theorem dX1_add_27 : decode cX1_add 27 = .ok (.bipush 24, 2) := by decide +kernel
theorem dX1_add_29 : decode cX1_add 29 = .ok (.if_icmp .ne 6, 3) := by decide +kernel
theorem dX1_add_32 : decode cX1_add 32 = .ok (.bipush (-2), 2) := by decide +kernel
theorem dX1_add_34 : decode cX1_add 34 = .ok (.ireturn, 1) := by decide +kernel
theorem dX1_add_35 : decode cX1_add 35 = .ok (.aload_n 0, 1) := by decide +kernel
theorem dX1_add_36 : decode cX1_add 36 = .ok (.getfield 7, 3) := by decide +kernel
theorem dX1_add_39 : decode cX1_add 39 = .ok (.aload_n 0, 1) := by decide +kernel
theorem dX1_add_40 : decode cX1_add 40 = .ok (.getfield 47, 3) := by decide +kernel
theorem dX1_add_43 : decode cX1_add 43 = .ok (.iload_n 1, 1) := by decide +kernel
theorem dX1_add_44 : decode cX1_add 44 = .ok (.i2b, 1) := by decide +kernel
theorem dX1_add_45 : decode cX1_add 45 = .ok (.bastore, 1) := by decide +kernel
theorem dX1_add_46 : decode cX1_add 46 = .ok (.aload_n 0, 1) := by decide +kernel
theorem dX1_add_47 : decode cX1_add 47 = .ok (.getfield 13, 3) := by decide +kernel
theorem dX1_add_50 : decode cX1_add 50 = .ok (.aload_n 0, 1) := by decide +kernel
theorem dX1_add_51 : decode cX1_add 51 = .ok (.getfield 47, 3) := by decide +kernel
theorem dX1_add_54 : decode cX1_add 54 = .ok (.iload_n 2, 1) := by decide +kernel
theorem dX1_add_55 : decode cX1_add 55 = .ok (.i2b, 1) := by decide +kernel
theorem dX1_add_56 : decode cX1_add 56 = .ok (.bastore, 1) := by decide +kernel
theorem dX1_add_57 : decode cX1_add 57 = .ok (.aload_n 0, 1) := by decide +kernel
theorem dX1_add_58 : decode cX1_add 58 = .ok (.dup, 1) := by decide +kernel
theorem dX1_add_59 : decode cX1_add 59 = .ok (.getfield 47, 3) := by decide +kernel
theorem dX1_add_62 : decode cX1_add 62 = .ok (.iconst 1, 1) := by decide +kernel
theorem dX1_add_63 : decode cX1_add 63 = .ok (.iadd, 1) := by decide +kernel
theorem dX1_add_64 : decode cX1_add 64 = .ok (.putfield 47, 3) := by decide +kernel
theorem dX1_add_67 : decode cX1_add 67 = .ok (.aload_n 0, 1) := by decide +kernel
theorem dX1_add_68 : decode cX1_add 68 = .ok (.getfield 47, 3) := by decide +kernel
theorem dX1_add_71 : decode cX1_add 71 = .ok (.ireturn, 1) := by decide +kernel
abbrev cX1_badWire : ByteArray := prog_1_method_2_code
def yX1_badWire : MethodName := ⟨RX1, "badWire", "(I)Z"⟩
theorem dX1_badWire_0 : decode cX1_badWire 0 = .ok (.iload_n 1, 1) := by decide +kernel
theorem dX1_badWire_1 : decode cX1_badWire 1 = .ok (.ifCond .lt 11, 3) := by decide +kernel
theorem dX1_badWire_4 : decode cX1_badWire 4 = .ok (.iload_n 1, 1) := by decide +kernel
theorem dX1_badWire_5 : decode cX1_badWire 5 = .ok (.aload_n 0, 1) := by decide +kernel
theorem dX1_badWire_6 : decode cX1_badWire 6 = .ok (.getfield 39, 3) := by decide +kernel
theorem dX1_badWire_9 : decode cX1_badWire 9 = .ok (.if_icmp .lt 7, 3) := by decide +kernel
theorem dX1_badWire_12 : decode cX1_badWire 12 = .ok (.iconst 1, 1) := by decide +kernel
theorem dX1_badWire_13 : decode cX1_badWire 13 = .ok (.goto 4, 3) := by decide +kernel
theorem dX1_badWire_16 : decode cX1_badWire 16 = .ok (.iconst 0, 1) := by decide +kernel
theorem dX1_badWire_17 : decode cX1_badWire 17 = .ok (.ireturn, 1) := by decide +kernel
abbrev cX1_drop : ByteArray := prog_1_method_4_code
def yX1_drop : MethodName := ⟨RX1, "drop", "(I)I"⟩
theorem dX1_drop_0 : decode cX1_drop 0 = .ok (.iload_n 1, 1) := by decide +kernel
theorem dX1_drop_1 : decode cX1_drop 1 = .ok (.ifCond .lt 11, 3) := by decide +kernel
theorem dX1_drop_4 : decode cX1_drop 4 = .ok (.iload_n 1, 1) := by decide +kernel
theorem dX1_drop_5 : decode cX1_drop 5 = .ok (.aload_n 0, 1) := by decide +kernel
theorem dX1_drop_6 : decode cX1_drop 6 = .ok (.getfield 47, 3) := by decide +kernel
theorem dX1_drop_9 : decode cX1_drop 9 = .ok (.if_icmp .lt 6, 3) := by decide +kernel
theorem dX1_drop_12 : decode cX1_drop 12 = .ok (.bipush (-4), 2) := by decide +kernel
theorem dX1_drop_14 : decode cX1_drop 14 = .ok (.ireturn, 1) := by decide +kernel
theorem dX1_drop_15 : decode cX1_drop 15 = .ok (.aload_n 0, 1) := by decide +kernel
theorem dX1_drop_16 : decode cX1_drop 16 = .ok (.dup, 1) := by decide +kernel
theorem dX1_drop_17 : decode cX1_drop 17 = .ok (.getfield 47, 3) := by decide +kernel
theorem dX1_drop_20 : decode cX1_drop 20 = .ok (.iconst 1, 1) := by decide +kernel
theorem dX1_drop_21 : decode cX1_drop 21 = .ok (.isub, 1) := by decide +kernel
theorem dX1_drop_22 : decode cX1_drop 22 = .ok (.putfield 47, 3) := by decide +kernel
theorem dX1_drop_25 : decode cX1_drop 25 = .ok (.iload_n 1, 1) := by decide +kernel
theorem dX1_drop_26 : decode cX1_drop 26 = .ok (.istore_n 2, 1) := by decide +kernel
theorem dX1_drop_27 : decode cX1_drop 27 = .ok (.iload_n 2, 1) := by decide +kernel
theorem dX1_drop_28 : decode cX1_drop 28 = .ok (.aload_n 0, 1) := by decide +kernel
theorem dX1_drop_29 : decode cX1_drop 29 = .ok (.getfield 47, 3) := by decide +kernel
theorem dX1_drop_32 : decode cX1_drop 32 = .ok (.if_icmp .ge 37, 3) := by decide +kernel
theorem dX1_drop_35 : decode cX1_drop 35 = .ok (.aload_n 0, 1) := by decide +kernel
theorem dX1_drop_36 : decode cX1_drop 36 = .ok (.getfield 7, 3) := by decide +kernel
theorem dX1_drop_39 : decode cX1_drop 39 = .ok (.iload_n 2, 1) := by decide +kernel
theorem dX1_drop_40 : decode cX1_drop 40 = .ok (.aload_n 0, 1) := by decide +kernel
theorem dX1_drop_41 : decode cX1_drop 41 = .ok (.getfield 7, 3) := by decide +kernel
theorem dX1_drop_44 : decode cX1_drop 44 = .ok (.iload_n 2, 1) := by decide +kernel
theorem dX1_drop_45 : decode cX1_drop 45 = .ok (.iconst 1, 1) := by decide +kernel
theorem dX1_drop_46 : decode cX1_drop 46 = .ok (.iadd, 1) := by decide +kernel
theorem dX1_drop_47 : decode cX1_drop 47 = .ok (.baload, 1) := by decide +kernel
theorem dX1_drop_48 : decode cX1_drop 48 = .ok (.bastore, 1) := by decide +kernel
theorem dX1_drop_49 : decode cX1_drop 49 = .ok (.aload_n 0, 1) := by decide +kernel
theorem dX1_drop_50 : decode cX1_drop 50 = .ok (.getfield 13, 3) := by decide +kernel
theorem dX1_drop_53 : decode cX1_drop 53 = .ok (.iload_n 2, 1) := by decide +kernel
theorem dX1_drop_54 : decode cX1_drop 54 = .ok (.aload_n 0, 1) := by decide +kernel
theorem dX1_drop_55 : decode cX1_drop 55 = .ok (.getfield 13, 3) := by decide +kernel
theorem dX1_drop_58 : decode cX1_drop 58 = .ok (.iload_n 2, 1) := by decide +kernel
theorem dX1_drop_59 : decode cX1_drop 59 = .ok (.iconst 1, 1) := by decide +kernel
theorem dX1_drop_60 : decode cX1_drop 60 = .ok (.iadd, 1) := by decide +kernel
theorem dX1_drop_61 : decode cX1_drop 61 = .ok (.baload, 1) := by decide +kernel
theorem dX1_drop_62 : decode cX1_drop 62 = .ok (.bastore, 1) := by decide +kernel
theorem dX1_drop_63 : decode cX1_drop 63 = .ok (.iinc 2 1, 3) := by decide +kernel
theorem dX1_drop_66 : decode cX1_drop 66 = .ok (.goto (-39), 3) := by decide +kernel
theorem dX1_drop_69 : decode cX1_drop 69 = .ok (.aload_n 0, 1) := by decide +kernel
theorem dX1_drop_70 : decode cX1_drop 70 = .ok (.getfield 47, 3) := by decide +kernel
theorem dX1_drop_73 : decode cX1_drop 73 = .ok (.ireturn, 1) := by decide +kernel
abbrev cX1_swap : ByteArray := prog_1_method_5_code
def yX1_swap : MethodName := ⟨RX1, "swap", "(I)I"⟩
theorem dX1_swap_0 : decode cX1_swap 0 = .ok (.iload_n 1, 1) := by decide +kernel
theorem dX1_swap_1 : decode cX1_swap 1 = .ok (.ifCond .lt 13, 3) := by decide +kernel
theorem dX1_swap_4 : decode cX1_swap 4 = .ok (.iload_n 1, 1) := by decide +kernel
theorem dX1_swap_5 : decode cX1_swap 5 = .ok (.aload_n 0, 1) := by decide +kernel
theorem dX1_swap_6 : decode cX1_swap 6 = .ok (.getfield 47, 3) := by decide +kernel
theorem dX1_swap_9 : decode cX1_swap 9 = .ok (.iconst 1, 1) := by decide +kernel
theorem dX1_swap_10 : decode cX1_swap 10 = .ok (.isub, 1) := by decide +kernel
theorem dX1_swap_11 : decode cX1_swap 11 = .ok (.if_icmp .lt 6, 3) := by decide +kernel
theorem dX1_swap_14 : decode cX1_swap 14 = .ok (.bipush (-4), 2) := by decide +kernel
theorem dX1_swap_16 : decode cX1_swap 16 = .ok (.ireturn, 1) := by decide +kernel
theorem dX1_swap_17 : decode cX1_swap 17 = .ok (.aload_n 0, 1) := by decide +kernel
theorem dX1_swap_18 : decode cX1_swap 18 = .ok (.getfield 7, 3) := by decide +kernel
theorem dX1_swap_21 : decode cX1_swap 21 = .ok (.iload_n 1, 1) := by decide +kernel
theorem dX1_swap_22 : decode cX1_swap 22 = .ok (.baload, 1) := by decide +kernel
theorem dX1_swap_23 : decode cX1_swap 23 = .ok (.istore_n 2, 1) := by decide +kernel
theorem dX1_swap_24 : decode cX1_swap 24 = .ok (.aload_n 0, 1) := by decide +kernel
theorem dX1_swap_25 : decode cX1_swap 25 = .ok (.getfield 13, 3) := by decide +kernel
theorem dX1_swap_28 : decode cX1_swap 28 = .ok (.iload_n 1, 1) := by decide +kernel
theorem dX1_swap_29 : decode cX1_swap 29 = .ok (.baload, 1) := by decide +kernel
theorem dX1_swap_30 : decode cX1_swap 30 = .ok (.istore_n 3, 1) := by decide +kernel
theorem dX1_swap_31 : decode cX1_swap 31 = .ok (.aload_n 0, 1) := by decide +kernel
theorem dX1_swap_32 : decode cX1_swap 32 = .ok (.getfield 7, 3) := by decide +kernel
theorem dX1_swap_35 : decode cX1_swap 35 = .ok (.iload_n 1, 1) := by decide +kernel
theorem dX1_swap_36 : decode cX1_swap 36 = .ok (.aload_n 0, 1) := by decide +kernel
theorem dX1_swap_37 : decode cX1_swap 37 = .ok (.getfield 7, 3) := by decide +kernel
theorem dX1_swap_40 : decode cX1_swap 40 = .ok (.iload_n 1, 1) := by decide +kernel
theorem dX1_swap_41 : decode cX1_swap 41 = .ok (.iconst 1, 1) := by decide +kernel
theorem dX1_swap_42 : decode cX1_swap 42 = .ok (.iadd, 1) := by decide +kernel
theorem dX1_swap_43 : decode cX1_swap 43 = .ok (.baload, 1) := by decide +kernel
theorem dX1_swap_44 : decode cX1_swap 44 = .ok (.bastore, 1) := by decide +kernel
theorem dX1_swap_45 : decode cX1_swap 45 = .ok (.aload_n 0, 1) := by decide +kernel
theorem dX1_swap_46 : decode cX1_swap 46 = .ok (.getfield 13, 3) := by decide +kernel
theorem dX1_swap_49 : decode cX1_swap 49 = .ok (.iload_n 1, 1) := by decide +kernel
theorem dX1_swap_50 : decode cX1_swap 50 = .ok (.aload_n 0, 1) := by decide +kernel
theorem dX1_swap_51 : decode cX1_swap 51 = .ok (.getfield 13, 3) := by decide +kernel
theorem dX1_swap_54 : decode cX1_swap 54 = .ok (.iload_n 1, 1) := by decide +kernel
theorem dX1_swap_55 : decode cX1_swap 55 = .ok (.iconst 1, 1) := by decide +kernel
theorem dX1_swap_56 : decode cX1_swap 56 = .ok (.iadd, 1) := by decide +kernel
theorem dX1_swap_57 : decode cX1_swap 57 = .ok (.baload, 1) := by decide +kernel
theorem dX1_swap_58 : decode cX1_swap 58 = .ok (.bastore, 1) := by decide +kernel
theorem dX1_swap_59 : decode cX1_swap 59 = .ok (.aload_n 0, 1) := by decide +kernel
theorem dX1_swap_60 : decode cX1_swap 60 = .ok (.getfield 7, 3) := by decide +kernel
theorem dX1_swap_63 : decode cX1_swap 63 = .ok (.iload_n 1, 1) := by decide +kernel
theorem dX1_swap_64 : decode cX1_swap 64 = .ok (.iconst 1, 1) := by decide +kernel
theorem dX1_swap_65 : decode cX1_swap 65 = .ok (.iadd, 1) := by decide +kernel
theorem dX1_swap_66 : decode cX1_swap 66 = .ok (.iload_n 2, 1) := by decide +kernel
theorem dX1_swap_67 : decode cX1_swap 67 = .ok (.bastore, 1) := by decide +kernel
theorem dX1_swap_68 : decode cX1_swap 68 = .ok (.aload_n 0, 1) := by decide +kernel
theorem dX1_swap_69 : decode cX1_swap 69 = .ok (.getfield 13, 3) := by decide +kernel
theorem dX1_swap_72 : decode cX1_swap 72 = .ok (.iload_n 1, 1) := by decide +kernel
theorem dX1_swap_73 : decode cX1_swap 73 = .ok (.iconst 1, 1) := by decide +kernel
theorem dX1_swap_74 : decode cX1_swap 74 = .ok (.iadd, 1) := by decide +kernel
theorem dX1_swap_75 : decode cX1_swap 75 = .ok (.iload_n 3, 1) := by decide +kernel
theorem dX1_swap_76 : decode cX1_swap 76 = .ok (.bastore, 1) := by decide +kernel
theorem dX1_swap_77 : decode cX1_swap 77 = .ok (.iconst 0, 1) := by decide +kernel
theorem dX1_swap_78 : decode cX1_swap 78 = .ok (.ireturn, 1) := by decide +kernel
abbrev cX1_turn : ByteArray := prog_1_method_6_code
def yX1_turn : MethodName := ⟨RX1, "turn", "()I"⟩
theorem dX1_turn_0 : decode cX1_turn 0 = .ok (.iconst 0, 1) := by decide +kernel
theorem dX1_turn_1 : decode cX1_turn 1 = .ok (.istore_n 1, 1) := by decide +kernel
theorem dX1_turn_2 : decode cX1_turn 2 = .ok (.iload_n 1, 1) := by decide +kernel
theorem dX1_turn_3 : decode cX1_turn 3 = .ok (.aload_n 0, 1) := by decide +kernel
theorem dX1_turn_4 : decode cX1_turn 4 = .ok (.getfield 47, 3) := by decide +kernel
theorem dX1_turn_7 : decode cX1_turn 7 = .ok (.if_icmp .ge 51, 3) := by decide +kernel
theorem dX1_turn_10 : decode cX1_turn 10 = .ok (.aload_n 0, 1) := by decide +kernel
theorem dX1_turn_11 : decode cX1_turn 11 = .ok (.getfield 7, 3) := by decide +kernel
theorem dX1_turn_14 : decode cX1_turn 14 = .ok (.iload_n 1, 1) := by decide +kernel
theorem dX1_turn_15 : decode cX1_turn 15 = .ok (.baload, 1) := by decide +kernel
theorem dX1_turn_16 : decode cX1_turn 16 = .ok (.istore_n 2, 1) := by decide +kernel
theorem dX1_turn_17 : decode cX1_turn 17 = .ok (.aload_n 0, 1) := by decide +kernel
theorem dX1_turn_18 : decode cX1_turn 18 = .ok (.getfield 7, 3) := by decide +kernel
theorem dX1_turn_21 : decode cX1_turn 21 = .ok (.iload_n 1, 1) := by decide +kernel
theorem dX1_turn_22 : decode cX1_turn 22 = .ok (.aload_n 0, 1) := by decide +kernel
theorem dX1_turn_23 : decode cX1_turn 23 = .ok (.getfield 39, 3) := by decide +kernel
theorem dX1_turn_26 : decode cX1_turn 26 = .ok (.iconst 1, 1) := by decide +kernel
theorem dX1_turn_27 : decode cX1_turn 27 = .ok (.isub, 1) := by decide +kernel
theorem dX1_turn_28 : decode cX1_turn 28 = .ok (.aload_n 0, 1) := by decide +kernel
theorem dX1_turn_29 : decode cX1_turn 29 = .ok (.getfield 13, 3) := by decide +kernel
theorem dX1_turn_32 : decode cX1_turn 32 = .ok (.iload_n 1, 1) := by decide +kernel
theorem dX1_turn_33 : decode cX1_turn 33 = .ok (.baload, 1) := by decide +kernel
theorem dX1_turn_34 : decode cX1_turn 34 = .ok (.isub, 1) := by decide +kernel
theorem dX1_turn_35 : decode cX1_turn 35 = .ok (.i2b, 1) := by decide +kernel
theorem dX1_turn_36 : decode cX1_turn 36 = .ok (.bastore, 1) := by decide +kernel
theorem dX1_turn_37 : decode cX1_turn 37 = .ok (.aload_n 0, 1) := by decide +kernel
theorem dX1_turn_38 : decode cX1_turn 38 = .ok (.getfield 13, 3) := by decide +kernel
theorem dX1_turn_41 : decode cX1_turn 41 = .ok (.iload_n 1, 1) := by decide +kernel
theorem dX1_turn_42 : decode cX1_turn 42 = .ok (.aload_n 0, 1) := by decide +kernel
theorem dX1_turn_43 : decode cX1_turn 43 = .ok (.getfield 39, 3) := by decide +kernel
theorem dX1_turn_46 : decode cX1_turn 46 = .ok (.iconst 1, 1) := by decide +kernel
theorem dX1_turn_47 : decode cX1_turn 47 = .ok (.isub, 1) := by decide +kernel
theorem dX1_turn_48 : decode cX1_turn 48 = .ok (.iload_n 2, 1) := by decide +kernel
theorem dX1_turn_49 : decode cX1_turn 49 = .ok (.isub, 1) := by decide +kernel
theorem dX1_turn_50 : decode cX1_turn 50 = .ok (.i2b, 1) := by decide +kernel
theorem dX1_turn_51 : decode cX1_turn 51 = .ok (.bastore, 1) := by decide +kernel
theorem dX1_turn_52 : decode cX1_turn 52 = .ok (.iinc 1 1, 3) := by decide +kernel
theorem dX1_turn_55 : decode cX1_turn 55 = .ok (.goto (-53), 3) := by decide +kernel
theorem dX1_turn_58 : decode cX1_turn 58 = .ok (.aload_n 0, 1) := by decide +kernel
theorem dX1_turn_59 : decode cX1_turn 59 = .ok (.getfield 47, 3) := by decide +kernel
theorem dX1_turn_62 : decode cX1_turn 62 = .ok (.ireturn, 1) := by decide +kernel
abbrev cX1_size : ByteArray := prog_1_method_7_code
def yX1_size : MethodName := ⟨RX1, "size", "()I"⟩
theorem dX1_size_0 : decode cX1_size 0 = .ok (.aload_n 0, 1) := by decide +kernel
theorem dX1_size_1 : decode cX1_size 1 = .ok (.getfield 47, 3) := by decide +kernel
theorem dX1_size_4 : decode cX1_size 4 = .ok (.ireturn, 1) := by decide +kernel
abbrev cX1_input : ByteArray := prog_1_method_8_code
def yX1_input : MethodName := ⟨RX1, "input", "(II)I"⟩
theorem dX1_input_0 : decode cX1_input 0 = .ok (.aload_n 0, 1) := by decide +kernel
theorem dX1_input_1 : decode cX1_input 1 = .ok (.iload_n 1, 1) := by decide +kernel
theorem dX1_input_2 : decode cX1_input 2 = .ok (.invokevirtual 43, 3) := by decide +kernel
theorem dX1_input_5 : decode cX1_input 5 = .ok (.ifCond .eq 5, 3) := by decide +kernel
theorem dX1_input_8 : decode cX1_input 8 = .ok (.iconst (-1), 1) := by decide +kernel
theorem dX1_input_9 : decode cX1_input 9 = .ok (.ireturn, 1) := by decide +kernel
theorem dX1_input_10 : decode cX1_input 10 = .ok (.aload_n 0, 1) := by decide +kernel
theorem dX1_input_11 : decode cX1_input 11 = .ok (.getfield 16, 3) := by decide +kernel
theorem dX1_input_14 : decode cX1_input 14 = .ok (.iload_n 1, 1) := by decide +kernel
theorem dX1_input_15 : decode cX1_input 15 = .ok (.iload_n 2, 1) := by decide +kernel
theorem dX1_input_16 : decode cX1_input 16 = .ok (.iastore, 1) := by decide +kernel
theorem dX1_input_17 : decode cX1_input 17 = .ok (.iconst 0, 1) := by decide +kernel
theorem dX1_input_18 : decode cX1_input 18 = .ok (.ireturn, 1) := by decide +kernel
abbrev cX1_output : ByteArray := prog_1_method_10_code
def yX1_output : MethodName := ⟨RX1, "output", "(I)I"⟩
theorem dX1_output_0 : decode cX1_output 0 = .ok (.aload_n 0, 1) := by decide +kernel
theorem dX1_output_1 : decode cX1_output 1 = .ok (.iload_n 1, 1) := by decide +kernel
theorem dX1_output_2 : decode cX1_output 2 = .ok (.invokevirtual 43, 3) := by decide +kernel
theorem dX1_output_5 : decode cX1_output 5 = .ok (.ifCond .eq 5, 3) := by decide +kernel
theorem dX1_output_8 : decode cX1_output 8 = .ok (.iconst 0, 1) := by decide +kernel
theorem dX1_output_9 : decode cX1_output 9 = .ok (.ireturn, 1) := by decide +kernel
theorem dX1_output_10 : decode cX1_output 10 = .ok (.aload_n 0, 1) := by decide +kernel
theorem dX1_output_11 : decode cX1_output 11 = .ok (.invokevirtual 50, 3) := by decide +kernel
theorem dX1_output_14 : decode cX1_output 14 = .ok (.pop, 1) := by decide +kernel
theorem dX1_output_15 : decode cX1_output 15 = .ok (.aload_n 0, 1) := by decide +kernel
theorem dX1_output_16 : decode cX1_output 16 = .ok (.getfield 20, 3) := by decide +kernel
theorem dX1_output_19 : decode cX1_output 19 = .ok (.iload_n 1, 1) := by decide +kernel
theorem dX1_output_20 : decode cX1_output 20 = .ok (.iaload, 1) := by decide +kernel
theorem dX1_output_21 : decode cX1_output 21 = .ok (.ireturn, 1) := by decide +kernel
abbrev cX1_pass : ByteArray := prog_1_method_9_code
def yX1_pass : MethodName := ⟨RX1, "pass", "()I"⟩
theorem dX1_pass_0 : decode cX1_pass 0 = .ok (.iconst 0, 1) := by decide +kernel
theorem dX1_pass_1 : decode cX1_pass 1 = .ok (.istore_n 1, 1) := by decide +kernel
theorem dX1_pass_2 : decode cX1_pass 2 = .ok (.iconst 0, 1) := by decide +kernel
theorem dX1_pass_3 : decode cX1_pass 3 = .ok (.istore_n 2, 1) := by decide +kernel
theorem dX1_pass_4 : decode cX1_pass 4 = .ok (.iload_n 2, 1) := by decide +kernel
theorem dX1_pass_5 : decode cX1_pass 5 = .ok (.aload_n 0, 1) := by decide +kernel
theorem dX1_pass_6 : decode cX1_pass 6 = .ok (.getfield 39, 3) := by decide +kernel
theorem dX1_pass_9 : decode cX1_pass 9 = .ok (.if_icmp .ge 21, 3) := by decide +kernel
theorem dX1_pass_12 : decode cX1_pass 12 = .ok (.aload_n 0, 1) := by decide +kernel
theorem dX1_pass_13 : decode cX1_pass 13 = .ok (.getfield 20, 3) := by decide +kernel
theorem dX1_pass_16 : decode cX1_pass 16 = .ok (.iload_n 2, 1) := by decide +kernel
theorem dX1_pass_17 : decode cX1_pass 17 = .ok (.aload_n 0, 1) := by decide +kernel
theorem dX1_pass_18 : decode cX1_pass 18 = .ok (.getfield 16, 3) := by decide +kernel
theorem dX1_pass_21 : decode cX1_pass 21 = .ok (.iload_n 2, 1) := by decide +kernel
theorem dX1_pass_22 : decode cX1_pass 22 = .ok (.iaload, 1) := by decide +kernel
theorem dX1_pass_23 : decode cX1_pass 23 = .ok (.iastore, 1) := by decide +kernel
theorem dX1_pass_24 : decode cX1_pass 24 = .ok (.iinc 2 1, 3) := by decide +kernel
theorem dX1_pass_27 : decode cX1_pass 27 = .ok (.goto (-23), 3) := by decide +kernel
theorem dX1_pass_30 : decode cX1_pass 30 = .ok (.iconst 0, 1) := by decide +kernel
theorem dX1_pass_31 : decode cX1_pass 31 = .ok (.istore_n 2, 1) := by decide +kernel
theorem dX1_pass_32 : decode cX1_pass 32 = .ok (.iload_n 2, 1) := by decide +kernel
theorem dX1_pass_33 : decode cX1_pass 33 = .ok (.aload_n 0, 1) := by decide +kernel
theorem dX1_pass_34 : decode cX1_pass 34 = .ok (.getfield 47, 3) := by decide +kernel
theorem dX1_pass_37 : decode cX1_pass 37 = .ok (.if_icmp .ge 68, 3) := by decide +kernel
theorem dX1_pass_40 : decode cX1_pass 40 = .ok (.aload_n 0, 1) := by decide +kernel
theorem dX1_pass_41 : decode cX1_pass 41 = .ok (.getfield 20, 3) := by decide +kernel
theorem dX1_pass_44 : decode cX1_pass 44 = .ok (.aload_n 0, 1) := by decide +kernel
theorem dX1_pass_45 : decode cX1_pass 45 = .ok (.getfield 7, 3) := by decide +kernel
theorem dX1_pass_48 : decode cX1_pass 48 = .ok (.iload_n 2, 1) := by decide +kernel
theorem dX1_pass_49 : decode cX1_pass 49 = .ok (.baload, 1) := by decide +kernel
theorem dX1_pass_50 : decode cX1_pass 50 = .ok (.iaload, 1) := by decide +kernel
theorem dX1_pass_51 : decode cX1_pass 51 = .ok (.istore_n 3, 1) := by decide +kernel
theorem dX1_pass_52 : decode cX1_pass 52 = .ok (.aload_n 0, 1) := by decide +kernel
theorem dX1_pass_53 : decode cX1_pass 53 = .ok (.getfield 20, 3) := by decide +kernel
theorem dX1_pass_56 : decode cX1_pass 56 = .ok (.aload_n 0, 1) := by decide +kernel
theorem dX1_pass_57 : decode cX1_pass 57 = .ok (.getfield 13, 3) := by decide +kernel
theorem dX1_pass_60 : decode cX1_pass 60 = .ok (.iload_n 2, 1) := by decide +kernel
theorem dX1_pass_61 : decode cX1_pass 61 = .ok (.baload, 1) := by decide +kernel
theorem dX1_pass_62 : decode cX1_pass 62 = .ok (.iaload, 1) := by decide +kernel
theorem dX1_pass_63 : decode cX1_pass 63 = .ok (.istore 4, 2) := by decide +kernel
theorem dX1_pass_65 : decode cX1_pass 65 = .ok (.iload_n 3, 1) := by decide +kernel
theorem dX1_pass_66 : decode cX1_pass 66 = .ok (.iload 4, 2) := by decide +kernel
theorem dX1_pass_68 : decode cX1_pass 68 = .ok (.if_icmp .le 31, 3) := by decide +kernel
theorem dX1_pass_71 : decode cX1_pass 71 = .ok (.aload_n 0, 1) := by decide +kernel
theorem dX1_pass_72 : decode cX1_pass 72 = .ok (.getfield 20, 3) := by decide +kernel
theorem dX1_pass_75 : decode cX1_pass 75 = .ok (.aload_n 0, 1) := by decide +kernel
theorem dX1_pass_76 : decode cX1_pass 76 = .ok (.getfield 7, 3) := by decide +kernel
theorem dX1_pass_79 : decode cX1_pass 79 = .ok (.iload_n 2, 1) := by decide +kernel
theorem dX1_pass_80 : decode cX1_pass 80 = .ok (.baload, 1) := by decide +kernel
theorem dX1_pass_81 : decode cX1_pass 81 = .ok (.iload 4, 2) := by decide +kernel
theorem dX1_pass_83 : decode cX1_pass 83 = .ok (.iastore, 1) := by decide +kernel
theorem dX1_pass_84 : decode cX1_pass 84 = .ok (.aload_n 0, 1) := by decide +kernel
theorem dX1_pass_85 : decode cX1_pass 85 = .ok (.getfield 20, 3) := by decide +kernel
theorem dX1_pass_88 : decode cX1_pass 88 = .ok (.aload_n 0, 1) := by decide +kernel
theorem dX1_pass_89 : decode cX1_pass 89 = .ok (.getfield 13, 3) := by decide +kernel
theorem dX1_pass_92 : decode cX1_pass 92 = .ok (.iload_n 2, 1) := by decide +kernel
theorem dX1_pass_93 : decode cX1_pass 93 = .ok (.baload, 1) := by decide +kernel
theorem dX1_pass_94 : decode cX1_pass 94 = .ok (.iload_n 3, 1) := by decide +kernel
theorem dX1_pass_95 : decode cX1_pass 95 = .ok (.iastore, 1) := by decide +kernel
theorem dX1_pass_96 : decode cX1_pass 96 = .ok (.iinc 1 1, 3) := by decide +kernel
theorem dX1_pass_99 : decode cX1_pass 99 = .ok (.iinc 2 1, 3) := by decide +kernel
theorem dX1_pass_102 : decode cX1_pass 102 = .ok (.goto (-70), 3) := by decide +kernel
theorem dX1_pass_105 : decode cX1_pass 105 = .ok (.iload_n 1, 1) := by decide +kernel
theorem dX1_pass_106 : decode cX1_pass 106 = .ok (.ireturn, 1) := by decide +kernel
abbrev cX1_exchanges : ByteArray := prog_1_method_11_code
def yX1_exchanges : MethodName := ⟨RX1, "exchanges", "()I"⟩
theorem dX1_exchanges_0 : decode cX1_exchanges 0 = .ok (.aload_n 0, 1) := by decide +kernel
theorem dX1_exchanges_1 : decode cX1_exchanges 1 = .ok (.invokevirtual 50, 3) := by decide +kernel
theorem dX1_exchanges_4 : decode cX1_exchanges 4 = .ok (.ireturn, 1) := by decide +kernel
abbrev cX1_sorts : ByteArray := prog_1_method_16_code
def yX1_sorts : MethodName := ⟨RX1, "sorts", "()I"⟩
theorem dX1_sorts_0 : decode cX1_sorts 0 = .ok (.aload_n 0, 1) := by decide +kernel
theorem dX1_sorts_1 : decode cX1_sorts 1 = .ok (.aload_n 0, 1) := by decide +kernel
theorem dX1_sorts_2 : decode cX1_sorts 2 = .ok (.getfield 47, 3) := by decide +kernel
theorem dX1_sorts_5 : decode cX1_sorts 5 = .ok (.iconst (-1), 1) := by decide +kernel
theorem dX1_sorts_6 : decode cX1_sorts 6 = .ok (.invokevirtual 62, 3) := by decide +kernel
theorem dX1_sorts_9 : decode cX1_sorts 9 = .ok (.iconst 1, 1) := by decide +kernel
theorem dX1_sorts_10 : decode cX1_sorts 10 = .ok (.istore_n 1, 1) := by decide +kernel
theorem dX1_sorts_11 : decode cX1_sorts 11 = .ok (.iconst 0, 1) := by decide +kernel
theorem dX1_sorts_12 : decode cX1_sorts 12 = .ok (.istore_n 2, 1) := by decide +kernel
theorem dX1_sorts_13 : decode cX1_sorts 13 = .ok (.iload_n 2, 1) := by decide +kernel
theorem dX1_sorts_14 : decode cX1_sorts 14 = .ok (.iconst 1, 1) := by decide +kernel
theorem dX1_sorts_15 : decode cX1_sorts 15 = .ok (.aload_n 0, 1) := by decide +kernel
theorem dX1_sorts_16 : decode cX1_sorts 16 = .ok (.getfield 39, 3) := by decide +kernel
theorem dX1_sorts_19 : decode cX1_sorts 19 = .ok (.ishl, 1) := by decide +kernel
theorem dX1_sorts_20 : decode cX1_sorts 20 = .ok (.if_icmp .ge 29, 3) := by decide +kernel
theorem dX1_sorts_23 : decode cX1_sorts 23 = .ok (.aload_n 0, 1) := by decide +kernel
theorem dX1_sorts_24 : decode cX1_sorts 24 = .ok (.iload_n 2, 1) := by decide +kernel
theorem dX1_sorts_25 : decode cX1_sorts 25 = .ok (.invokevirtual 66, 3) := by decide +kernel
theorem dX1_sorts_28 : decode cX1_sorts 28 = .ok (.istore_n 3, 1) := by decide +kernel
theorem dX1_sorts_29 : decode cX1_sorts 29 = .ok (.iload_n 1, 1) := by decide +kernel
theorem dX1_sorts_30 : decode cX1_sorts 30 = .ok (.ifCond .eq 11, 3) := by decide +kernel
theorem dX1_sorts_33 : decode cX1_sorts 33 = .ok (.iload_n 3, 1) := by decide +kernel
theorem dX1_sorts_34 : decode cX1_sorts 34 = .ok (.ifCond .eq 7, 3) := by decide +kernel
theorem dX1_sorts_37 : decode cX1_sorts 37 = .ok (.iconst 1, 1) := by decide +kernel
theorem dX1_sorts_38 : decode cX1_sorts 38 = .ok (.goto 4, 3) := by decide +kernel
theorem dX1_sorts_41 : decode cX1_sorts 41 = .ok (.iconst 0, 1) := by decide +kernel
theorem dX1_sorts_42 : decode cX1_sorts 42 = .ok (.istore_n 1, 1) := by decide +kernel
theorem dX1_sorts_43 : decode cX1_sorts 43 = .ok (.iinc 2 1, 3) := by decide +kernel
theorem dX1_sorts_46 : decode cX1_sorts 46 = .ok (.goto (-33), 3) := by decide +kernel
theorem dX1_sorts_49 : decode cX1_sorts 49 = .ok (.iload_n 1, 1) := by decide +kernel
theorem dX1_sorts_50 : decode cX1_sorts 50 = .ok (.ifCond .eq 7, 3) := by decide +kernel
theorem dX1_sorts_53 : decode cX1_sorts 53 = .ok (.iconst 1, 1) := by decide +kernel
theorem dX1_sorts_54 : decode cX1_sorts 54 = .ok (.goto 4, 3) := by decide +kernel
theorem dX1_sorts_57 : decode cX1_sorts 57 = .ok (.iconst 0, 1) := by decide +kernel
theorem dX1_sorts_58 : decode cX1_sorts 58 = .ok (.ireturn, 1) := by decide +kernel
end
section
set_option maxRecDepth 100000
abbrev cX1_findSets : ByteArray := prog_1_method_13_code
def yX1_findSets : MethodName := ⟨RX1, "findSets", "(II)V"⟩
theorem dX1_findSets_0 : decode cX1_findSets 0 = .ok (.iconst 0, 1) := by decide +kernel
theorem dX1_findSets_1 : decode cX1_findSets 1 = .ok (.istore_n 3, 1) := by decide +kernel
theorem dX1_findSets_2 : decode cX1_findSets 2 = .ok (.iload_n 3, 1) := by decide +kernel
theorem dX1_findSets_3 : decode cX1_findSets 3 = .ok (.iconst 1, 1) := by decide +kernel
theorem dX1_findSets_4 : decode cX1_findSets 4 = .ok (.aload_n 0, 1) := by decide +kernel
theorem dX1_findSets_5 : decode cX1_findSets 5 = .ok (.getfield 39, 3) := by decide +kernel
theorem dX1_findSets_8 : decode cX1_findSets 8 = .ok (.ishl, 1) := by decide +kernel
theorem dX1_findSets_9 : decode cX1_findSets 9 = .ok (.if_icmp .ge 57, 3) := by decide +kernel
theorem dX1_findSets_12 : decode cX1_findSets 12 = .ok (.iload_n 3, 1) := by decide +kernel
theorem dX1_findSets_13 : decode cX1_findSets 13 = .ok (.istore 4, 2) := by decide +kernel
theorem dX1_findSets_15 : decode cX1_findSets 15 = .ok (.iconst 0, 1) := by decide +kernel
theorem dX1_findSets_16 : decode cX1_findSets 16 = .ok (.istore 5, 2) := by decide +kernel
theorem dX1_findSets_18 : decode cX1_findSets 18 = .ok (.iload 5, 2) := by decide +kernel
theorem dX1_findSets_20 : decode cX1_findSets 20 = .ok (.iload_n 1, 1) := by decide +kernel
theorem dX1_findSets_21 : decode cX1_findSets 21 = .ok (.if_icmp .ge 30, 3) := by decide +kernel
theorem dX1_findSets_24 : decode cX1_findSets 24 = .ok (.iload 5, 2) := by decide +kernel
theorem dX1_findSets_26 : decode cX1_findSets 26 = .ok (.iload_n 2, 1) := by decide +kernel
theorem dX1_findSets_27 : decode cX1_findSets 27 = .ok (.if_icmp .ne 8, 3) := by decide +kernel
theorem dX1_findSets_30 : decode cX1_findSets 30 = .ok (.iload 4, 2) := by decide +kernel
theorem dX1_findSets_32 : decode cX1_findSets 32 = .ok (.goto 11, 3) := by decide +kernel
theorem dX1_findSets_35 : decode cX1_findSets 35 = .ok (.aload_n 0, 1) := by decide +kernel
theorem dX1_findSets_36 : decode cX1_findSets 36 = .ok (.iload 4, 2) := by decide +kernel
theorem dX1_findSets_38 : decode cX1_findSets 38 = .ok (.iload 5, 2) := by decide +kernel
theorem dX1_findSets_40 : decode cX1_findSets 40 = .ok (.invokevirtual 54, 3) := by decide +kernel
theorem dX1_findSets_43 : decode cX1_findSets 43 = .ok (.istore 4, 2) := by decide +kernel
theorem dX1_findSets_45 : decode cX1_findSets 45 = .ok (.iinc 5 1, 3) := by decide +kernel
theorem dX1_findSets_48 : decode cX1_findSets 48 = .ok (.goto (-30), 3) := by decide +kernel
theorem dX1_findSets_51 : decode cX1_findSets 51 = .ok (.aload_n 0, 1) := by decide +kernel
theorem dX1_findSets_52 : decode cX1_findSets 52 = .ok (.getfield 23, 3) := by decide +kernel
theorem dX1_findSets_55 : decode cX1_findSets 55 = .ok (.iload_n 3, 1) := by decide +kernel
theorem dX1_findSets_56 : decode cX1_findSets 56 = .ok (.iload 4, 2) := by decide +kernel
theorem dX1_findSets_58 : decode cX1_findSets 58 = .ok (.i2s, 1) := by decide +kernel
theorem dX1_findSets_59 : decode cX1_findSets 59 = .ok (.sastore, 1) := by decide +kernel
theorem dX1_findSets_60 : decode cX1_findSets 60 = .ok (.iinc 3 1, 3) := by decide +kernel
theorem dX1_findSets_63 : decode cX1_findSets 63 = .ok (.goto (-61), 3) := by decide +kernel
theorem dX1_findSets_66 : decode cX1_findSets 66 = .ok (.return_, 1) := by decide +kernel
abbrev cX1_behind : ByteArray := prog_1_method_12_code
def yX1_behind : MethodName := ⟨RX1, "behind", "(II)I"⟩
theorem dX1_behind_0 : decode cX1_behind 0 = .ok (.iload_n 1, 1) := by decide +kernel
theorem dX1_behind_1 : decode cX1_behind 1 = .ok (.aload_n 0, 1) := by decide +kernel
theorem dX1_behind_2 : decode cX1_behind 2 = .ok (.getfield 7, 3) := by decide +kernel
theorem dX1_behind_5 : decode cX1_behind 5 = .ok (.iload_n 2, 1) := by decide +kernel
theorem dX1_behind_6 : decode cX1_behind 6 = .ok (.baload, 1) := by decide +kernel
theorem dX1_behind_7 : decode cX1_behind 7 = .ok (.ishr, 1) := by decide +kernel
theorem dX1_behind_8 : decode cX1_behind 8 = .ok (.iconst 1, 1) := by decide +kernel
theorem dX1_behind_9 : decode cX1_behind 9 = .ok (.iand, 1) := by decide +kernel
theorem dX1_behind_10 : decode cX1_behind 10 = .ok (.istore_n 3, 1) := by decide +kernel
theorem dX1_behind_11 : decode cX1_behind 11 = .ok (.iload_n 1, 1) := by decide +kernel
theorem dX1_behind_12 : decode cX1_behind 12 = .ok (.aload_n 0, 1) := by decide +kernel
theorem dX1_behind_13 : decode cX1_behind 13 = .ok (.getfield 13, 3) := by decide +kernel
theorem dX1_behind_16 : decode cX1_behind 16 = .ok (.iload_n 2, 1) := by decide +kernel
theorem dX1_behind_17 : decode cX1_behind 17 = .ok (.baload, 1) := by decide +kernel
theorem dX1_behind_18 : decode cX1_behind 18 = .ok (.ishr, 1) := by decide +kernel
theorem dX1_behind_19 : decode cX1_behind 19 = .ok (.iconst 1, 1) := by decide +kernel
theorem dX1_behind_20 : decode cX1_behind 20 = .ok (.iand, 1) := by decide +kernel
theorem dX1_behind_21 : decode cX1_behind 21 = .ok (.istore 4, 2) := by decide +kernel
theorem dX1_behind_23 : decode cX1_behind 23 = .ok (.iload_n 3, 1) := by decide +kernel
theorem dX1_behind_24 : decode cX1_behind 24 = .ok (.iload 4, 2) := by decide +kernel
theorem dX1_behind_26 : decode cX1_behind 26 = .ok (.if_icmp .le 25, 3) := by decide +kernel
theorem dX1_behind_29 : decode cX1_behind 29 = .ok (.iload_n 1, 1) := by decide +kernel
theorem dX1_behind_30 : decode cX1_behind 30 = .ok (.iconst 1, 1) := by decide +kernel
theorem dX1_behind_31 : decode cX1_behind 31 = .ok (.aload_n 0, 1) := by decide +kernel
theorem dX1_behind_32 : decode cX1_behind 32 = .ok (.getfield 7, 3) := by decide +kernel
theorem dX1_behind_35 : decode cX1_behind 35 = .ok (.iload_n 2, 1) := by decide +kernel
theorem dX1_behind_36 : decode cX1_behind 36 = .ok (.baload, 1) := by decide +kernel
theorem dX1_behind_37 : decode cX1_behind 37 = .ok (.ishl, 1) := by decide +kernel
theorem dX1_behind_38 : decode cX1_behind 38 = .ok (.iconst 1, 1) := by decide +kernel
theorem dX1_behind_39 : decode cX1_behind 39 = .ok (.aload_n 0, 1) := by decide +kernel
theorem dX1_behind_40 : decode cX1_behind 40 = .ok (.getfield 13, 3) := by decide +kernel
theorem dX1_behind_43 : decode cX1_behind 43 = .ok (.iload_n 2, 1) := by decide +kernel
theorem dX1_behind_44 : decode cX1_behind 44 = .ok (.baload, 1) := by decide +kernel
theorem dX1_behind_45 : decode cX1_behind 45 = .ok (.ishl, 1) := by decide +kernel
theorem dX1_behind_46 : decode cX1_behind 46 = .ok (.ior, 1) := by decide +kernel
theorem dX1_behind_47 : decode cX1_behind 47 = .ok (.ixor, 1) := by decide +kernel
theorem dX1_behind_48 : decode cX1_behind 48 = .ok (.goto 4, 3) := by decide +kernel
theorem dX1_behind_51 : decode cX1_behind 51 = .ok (.iload_n 1, 1) := by decide +kernel
theorem dX1_behind_52 : decode cX1_behind 52 = .ok (.ireturn, 1) := by decide +kernel
abbrev cX1_inPlace : ByteArray := prog_1_method_15_code
def yX1_inPlace : MethodName := ⟨RX1, "inPlace", "(I)Z"⟩
theorem dX1_inPlace_0 : decode cX1_inPlace 0 = .ok (.aload_n 0, 1) := by decide +kernel
theorem dX1_inPlace_1 : decode cX1_inPlace 1 = .ok (.iload_n 1, 1) := by decide +kernel
theorem dX1_inPlace_2 : decode cX1_inPlace 2 = .ok (.invokevirtual 58, 3) := by decide +kernel
theorem dX1_inPlace_5 : decode cX1_inPlace 5 = .ok (.istore_n 2, 1) := by decide +kernel
theorem dX1_inPlace_6 : decode cX1_inPlace 6 = .ok (.aload_n 0, 1) := by decide +kernel
theorem dX1_inPlace_7 : decode cX1_inPlace 7 = .ok (.getfield 23, 3) := by decide +kernel
theorem dX1_inPlace_10 : decode cX1_inPlace 10 = .ok (.iload_n 1, 1) := by decide +kernel
theorem dX1_inPlace_11 : decode cX1_inPlace 11 = .ok (.saload, 1) := by decide +kernel
theorem dX1_inPlace_12 : decode cX1_inPlace 12 = .ok (.iconst 1, 1) := by decide +kernel
theorem dX1_inPlace_13 : decode cX1_inPlace 13 = .ok (.aload_n 0, 1) := by decide +kernel
theorem dX1_inPlace_14 : decode cX1_inPlace 14 = .ok (.getfield 39, 3) := by decide +kernel
theorem dX1_inPlace_17 : decode cX1_inPlace 17 = .ok (.ishl, 1) := by decide +kernel
theorem dX1_inPlace_18 : decode cX1_inPlace 18 = .ok (.iconst 1, 1) := by decide +kernel
theorem dX1_inPlace_19 : decode cX1_inPlace 19 = .ok (.aload_n 0, 1) := by decide +kernel
theorem dX1_inPlace_20 : decode cX1_inPlace 20 = .ok (.getfield 39, 3) := by decide +kernel
theorem dX1_inPlace_23 : decode cX1_inPlace 23 = .ok (.iload_n 2, 1) := by decide +kernel
theorem dX1_inPlace_24 : decode cX1_inPlace 24 = .ok (.isub, 1) := by decide +kernel
theorem dX1_inPlace_25 : decode cX1_inPlace 25 = .ok (.ishl, 1) := by decide +kernel
theorem dX1_inPlace_26 : decode cX1_inPlace 26 = .ok (.isub, 1) := by decide +kernel
theorem dX1_inPlace_27 : decode cX1_inPlace 27 = .ok (.if_icmp .ne 7, 3) := by decide +kernel
theorem dX1_inPlace_30 : decode cX1_inPlace 30 = .ok (.iconst 1, 1) := by decide +kernel
theorem dX1_inPlace_31 : decode cX1_inPlace 31 = .ok (.goto 4, 3) := by decide +kernel
theorem dX1_inPlace_34 : decode cX1_inPlace 34 = .ok (.iconst 0, 1) := by decide +kernel
theorem dX1_inPlace_35 : decode cX1_inPlace 35 = .ok (.ireturn, 1) := by decide +kernel
abbrev cX1_sizeOf : ByteArray := prog_1_method_14_code
def yX1_sizeOf : MethodName := ⟨RX1, "sizeOf", "(I)I"⟩
theorem dX1_sizeOf_0 : decode cX1_sizeOf 0 = .ok (.iconst 0, 1) := by decide +kernel
theorem dX1_sizeOf_1 : decode cX1_sizeOf 1 = .ok (.istore_n 2, 1) := by decide +kernel
theorem dX1_sizeOf_2 : decode cX1_sizeOf 2 = .ok (.iconst 0, 1) := by decide +kernel
theorem dX1_sizeOf_3 : decode cX1_sizeOf 3 = .ok (.istore_n 3, 1) := by decide +kernel
theorem dX1_sizeOf_4 : decode cX1_sizeOf 4 = .ok (.iload_n 3, 1) := by decide +kernel
theorem dX1_sizeOf_5 : decode cX1_sizeOf 5 = .ok (.aload_n 0, 1) := by decide +kernel
theorem dX1_sizeOf_6 : decode cX1_sizeOf 6 = .ok (.getfield 39, 3) := by decide +kernel
theorem dX1_sizeOf_9 : decode cX1_sizeOf 9 = .ok (.if_icmp .ge 17, 3) := by decide +kernel
theorem dX1_sizeOf_12 : decode cX1_sizeOf 12 = .ok (.iload_n 2, 1) := by decide +kernel
theorem dX1_sizeOf_13 : decode cX1_sizeOf 13 = .ok (.iload_n 1, 1) := by decide +kernel
theorem dX1_sizeOf_14 : decode cX1_sizeOf 14 = .ok (.iload_n 3, 1) := by decide +kernel
theorem dX1_sizeOf_15 : decode cX1_sizeOf 15 = .ok (.ishr, 1) := by decide +kernel
theorem dX1_sizeOf_16 : decode cX1_sizeOf 16 = .ok (.iconst 1, 1) := by decide +kernel
theorem dX1_sizeOf_17 : decode cX1_sizeOf 17 = .ok (.iand, 1) := by decide +kernel
theorem dX1_sizeOf_18 : decode cX1_sizeOf 18 = .ok (.iadd, 1) := by decide +kernel
theorem dX1_sizeOf_19 : decode cX1_sizeOf 19 = .ok (.istore_n 2, 1) := by decide +kernel
theorem dX1_sizeOf_20 : decode cX1_sizeOf 20 = .ok (.iinc 3 1, 3) := by decide +kernel
theorem dX1_sizeOf_23 : decode cX1_sizeOf 23 = .ok (.goto (-19), 3) := by decide +kernel
theorem dX1_sizeOf_26 : decode cX1_sizeOf 26 = .ok (.iload_n 2, 1) := by decide +kernel
theorem dX1_sizeOf_27 : decode cX1_sizeOf 27 = .ok (.ireturn, 1) := by decide +kernel
abbrev cX1_sorted : ByteArray := prog_1_method_17_code
def yX1_sorted : MethodName := ⟨RX1, "sorted", "()I"⟩
theorem dX1_sorted_0 : decode cX1_sorted 0 = .ok (.aload_n 0, 1) := by decide +kernel
theorem dX1_sorted_1 : decode cX1_sorted 1 = .ok (.aload_n 0, 1) := by decide +kernel
theorem dX1_sorted_2 : decode cX1_sorted 2 = .ok (.getfield 47, 3) := by decide +kernel
theorem dX1_sorted_5 : decode cX1_sorted 5 = .ok (.iconst (-1), 1) := by decide +kernel
theorem dX1_sorted_6 : decode cX1_sorted 6 = .ok (.invokevirtual 62, 3) := by decide +kernel
theorem dX1_sorted_9 : decode cX1_sorted 9 = .ok (.aload_n 0, 1) := by decide +kernel
theorem dX1_sorted_10 : decode cX1_sorted 10 = .ok (.getfield 30, 3) := by decide +kernel
theorem dX1_sorted_13 : decode cX1_sorted 13 = .ok (.iconst 0, 1) := by decide +kernel
theorem dX1_sorted_14 : decode cX1_sorted 14 = .ok (.iconst 1, 1) := by decide +kernel
theorem dX1_sorted_15 : decode cX1_sorted 15 = .ok (.iastore, 1) := by decide +kernel
theorem dX1_sorted_16 : decode cX1_sorted 16 = .ok (.iconst 1, 1) := by decide +kernel
theorem dX1_sorted_17 : decode cX1_sorted 17 = .ok (.istore_n 1, 1) := by decide +kernel
theorem dX1_sorted_18 : decode cX1_sorted 18 = .ok (.iload_n 1, 1) := by decide +kernel
theorem dX1_sorted_19 : decode cX1_sorted 19 = .ok (.iconst 1, 1) := by decide +kernel
theorem dX1_sorted_20 : decode cX1_sorted 20 = .ok (.aload_n 0, 1) := by decide +kernel
theorem dX1_sorted_21 : decode cX1_sorted 21 = .ok (.getfield 39, 3) := by decide +kernel
theorem dX1_sorted_24 : decode cX1_sorted 24 = .ok (.ishl, 1) := by decide +kernel
theorem dX1_sorted_25 : decode cX1_sorted 25 = .ok (.if_icmp .ge 74, 3) := by decide +kernel
theorem dX1_sorted_28 : decode cX1_sorted 28 = .ok (.iconst 0, 1) := by decide +kernel
theorem dX1_sorted_29 : decode cX1_sorted 29 = .ok (.istore_n 2, 1) := by decide +kernel
theorem dX1_sorted_30 : decode cX1_sorted 30 = .ok (.iconst 0, 1) := by decide +kernel
theorem dX1_sorted_31 : decode cX1_sorted 31 = .ok (.istore_n 3, 1) := by decide +kernel
theorem dX1_sorted_32 : decode cX1_sorted 32 = .ok (.iload_n 3, 1) := by decide +kernel
theorem dX1_sorted_33 : decode cX1_sorted 33 = .ok (.aload_n 0, 1) := by decide +kernel
theorem dX1_sorted_34 : decode cX1_sorted 34 = .ok (.getfield 39, 3) := by decide +kernel
theorem dX1_sorted_37 : decode cX1_sorted 37 = .ok (.if_icmp .ge 35, 3) := by decide +kernel
theorem dX1_sorted_40 : decode cX1_sorted 40 = .ok (.iload_n 1, 1) := by decide +kernel
theorem dX1_sorted_41 : decode cX1_sorted 41 = .ok (.iload_n 3, 1) := by decide +kernel
theorem dX1_sorted_42 : decode cX1_sorted 42 = .ok (.ishr, 1) := by decide +kernel
theorem dX1_sorted_43 : decode cX1_sorted 43 = .ok (.iconst 1, 1) := by decide +kernel
theorem dX1_sorted_44 : decode cX1_sorted 44 = .ok (.iand, 1) := by decide +kernel
theorem dX1_sorted_45 : decode cX1_sorted 45 = .ok (.iconst 1, 1) := by decide +kernel
theorem dX1_sorted_46 : decode cX1_sorted 46 = .ok (.if_icmp .ne 18, 3) := by decide +kernel
theorem dX1_sorted_49 : decode cX1_sorted 49 = .ok (.iload_n 2, 1) := by decide +kernel
theorem dX1_sorted_50 : decode cX1_sorted 50 = .ok (.aload_n 0, 1) := by decide +kernel
theorem dX1_sorted_51 : decode cX1_sorted 51 = .ok (.getfield 30, 3) := by decide +kernel
theorem dX1_sorted_54 : decode cX1_sorted 54 = .ok (.iload_n 1, 1) := by decide +kernel
theorem dX1_sorted_55 : decode cX1_sorted 55 = .ok (.iconst 1, 1) := by decide +kernel
theorem dX1_sorted_56 : decode cX1_sorted 56 = .ok (.iload_n 3, 1) := by decide +kernel
theorem dX1_sorted_57 : decode cX1_sorted 57 = .ok (.ishl, 1) := by decide +kernel
theorem dX1_sorted_58 : decode cX1_sorted 58 = .ok (.ixor, 1) := by decide +kernel
theorem dX1_sorted_59 : decode cX1_sorted 59 = .ok (.iaload, 1) := by decide +kernel
theorem dX1_sorted_60 : decode cX1_sorted 60 = .ok (.iadd, 1) := by decide +kernel
theorem dX1_sorted_61 : decode cX1_sorted 61 = .ok (.goto 4, 3) := by decide +kernel
theorem dX1_sorted_64 : decode cX1_sorted 64 = .ok (.iload_n 2, 1) := by decide +kernel
theorem dX1_sorted_65 : decode cX1_sorted 65 = .ok (.istore_n 2, 1) := by decide +kernel
theorem dX1_sorted_66 : decode cX1_sorted 66 = .ok (.iinc 3 1, 3) := by decide +kernel
theorem dX1_sorted_69 : decode cX1_sorted 69 = .ok (.goto (-37), 3) := by decide +kernel
theorem dX1_sorted_72 : decode cX1_sorted 72 = .ok (.aload_n 0, 1) := by decide +kernel
theorem dX1_sorted_73 : decode cX1_sorted 73 = .ok (.iload_n 1, 1) := by decide +kernel
theorem dX1_sorted_74 : decode cX1_sorted 74 = .ok (.invokevirtual 66, 3) := by decide +kernel
theorem dX1_sorted_77 : decode cX1_sorted 77 = .ok (.istore_n 3, 1) := by decide +kernel
theorem dX1_sorted_78 : decode cX1_sorted 78 = .ok (.aload_n 0, 1) := by decide +kernel
theorem dX1_sorted_79 : decode cX1_sorted 79 = .ok (.getfield 30, 3) := by decide +kernel
theorem dX1_sorted_82 : decode cX1_sorted 82 = .ok (.iload_n 1, 1) := by decide +kernel
theorem dX1_sorted_83 : decode cX1_sorted 83 = .ok (.iload_n 3, 1) := by decide +kernel
theorem dX1_sorted_84 : decode cX1_sorted 84 = .ok (.ifCond .eq 7, 3) := by decide +kernel
theorem dX1_sorted_87 : decode cX1_sorted 87 = .ok (.iload_n 2, 1) := by decide +kernel
theorem dX1_sorted_88 : decode cX1_sorted 88 = .ok (.goto 4, 3) := by decide +kernel
theorem dX1_sorted_91 : decode cX1_sorted 91 = .ok (.iconst 0, 1) := by decide +kernel
theorem dX1_sorted_92 : decode cX1_sorted 92 = .ok (.iastore, 1) := by decide +kernel
theorem dX1_sorted_93 : decode cX1_sorted 93 = .ok (.iinc 1 1, 3) := by decide +kernel
theorem dX1_sorted_96 : decode cX1_sorted 96 = .ok (.goto (-78), 3) := by decide +kernel
theorem dX1_sorted_99 : decode cX1_sorted 99 = .ok (.aload_n 0, 1) := by decide +kernel
theorem dX1_sorted_100 : decode cX1_sorted 100 = .ok (.getfield 30, 3) := by decide +kernel
theorem dX1_sorted_103 : decode cX1_sorted 103 = .ok (.iconst 1, 1) := by decide +kernel
theorem dX1_sorted_104 : decode cX1_sorted 104 = .ok (.aload_n 0, 1) := by decide +kernel
theorem dX1_sorted_105 : decode cX1_sorted 105 = .ok (.getfield 39, 3) := by decide +kernel
theorem dX1_sorted_108 : decode cX1_sorted 108 = .ok (.ishl, 1) := by decide +kernel
theorem dX1_sorted_109 : decode cX1_sorted 109 = .ok (.iconst 1, 1) := by decide +kernel
theorem dX1_sorted_110 : decode cX1_sorted 110 = .ok (.isub, 1) := by decide +kernel
theorem dX1_sorted_111 : decode cX1_sorted 111 = .ok (.iaload, 1) := by decide +kernel
theorem dX1_sorted_112 : decode cX1_sorted 112 = .ok (.ireturn, 1) := by decide +kernel
abbrev cX1_ranks : ByteArray := prog_1_method_19_code
def yX1_ranks : MethodName := ⟨RX1, "ranks", "(II)I"⟩
theorem dX1_ranks_0 : decode cX1_ranks 0 = .ok (.aload_n 0, 1) := by decide +kernel
theorem dX1_ranks_1 : decode cX1_ranks 1 = .ok (.iload_n 1, 1) := by decide +kernel
theorem dX1_ranks_2 : decode cX1_ranks 2 = .ok (.invokevirtual 43, 3) := by decide +kernel
theorem dX1_ranks_5 : decode cX1_ranks 5 = .ok (.ifCond .ne 16, 3) := by decide +kernel
theorem dX1_ranks_8 : decode cX1_ranks 8 = .ok (.iload_n 2, 1) := by decide +kernel
theorem dX1_ranks_9 : decode cX1_ranks 9 = .ok (.iconst 1, 1) := by decide +kernel
theorem dX1_ranks_10 : decode cX1_ranks 10 = .ok (.if_icmp .lt 11, 3) := by decide +kernel
theorem dX1_ranks_13 : decode cX1_ranks 13 = .ok (.iload_n 2, 1) := by decide +kernel
theorem dX1_ranks_14 : decode cX1_ranks 14 = .ok (.aload_n 0, 1) := by decide +kernel
theorem dX1_ranks_15 : decode cX1_ranks 15 = .ok (.getfield 39, 3) := by decide +kernel
theorem dX1_ranks_18 : decode cX1_ranks 18 = .ok (.if_icmp .le 5, 3) := by decide +kernel
theorem dX1_ranks_21 : decode cX1_ranks 21 = .ok (.iconst (-1), 1) := by decide +kernel
theorem dX1_ranks_22 : decode cX1_ranks 22 = .ok (.ireturn, 1) := by decide +kernel
theorem dX1_ranks_23 : decode cX1_ranks 23 = .ok (.aload_n 0, 1) := by decide +kernel
theorem dX1_ranks_24 : decode cX1_ranks 24 = .ok (.aload_n 0, 1) := by decide +kernel
theorem dX1_ranks_25 : decode cX1_ranks 25 = .ok (.getfield 47, 3) := by decide +kernel
theorem dX1_ranks_28 : decode cX1_ranks 28 = .ok (.iconst (-1), 1) := by decide +kernel
theorem dX1_ranks_29 : decode cX1_ranks 29 = .ok (.invokevirtual 62, 3) := by decide +kernel
theorem dX1_ranks_32 : decode cX1_ranks 32 = .ok (.iconst 0, 1) := by decide +kernel
theorem dX1_ranks_33 : decode cX1_ranks 33 = .ok (.istore_n 3, 1) := by decide +kernel
theorem dX1_ranks_34 : decode cX1_ranks 34 = .ok (.iconst 0, 1) := by decide +kernel
theorem dX1_ranks_35 : decode cX1_ranks 35 = .ok (.istore 4, 2) := by decide +kernel
theorem dX1_ranks_37 : decode cX1_ranks 37 = .ok (.iload 4, 2) := by decide +kernel
theorem dX1_ranks_39 : decode cX1_ranks 39 = .ok (.aload_n 0, 1) := by decide +kernel
theorem dX1_ranks_40 : decode cX1_ranks 40 = .ok (.getfield 39, 3) := by decide +kernel
theorem dX1_ranks_43 : decode cX1_ranks 43 = .ok (.aload_n 0, 1) := by decide +kernel
theorem dX1_ranks_44 : decode cX1_ranks 44 = .ok (.getfield 39, 3) := by decide +kernel
theorem dX1_ranks_47 : decode cX1_ranks 47 = .ok (.ishl, 1) := by decide +kernel
theorem dX1_ranks_48 : decode cX1_ranks 48 = .ok (.if_icmp .ge 119, 3) := by decide +kernel
theorem dX1_ranks_51 : decode cX1_ranks 51 = .ok (.iload 4, 2) := by decide +kernel
theorem dX1_ranks_53 : decode cX1_ranks 53 = .ok (.aload_n 0, 1) := by decide +kernel
theorem dX1_ranks_54 : decode cX1_ranks 54 = .ok (.getfield 39, 3) := by decide +kernel
theorem dX1_ranks_57 : decode cX1_ranks 57 = .ok (.idiv, 1) := by decide +kernel
theorem dX1_ranks_58 : decode cX1_ranks 58 = .ok (.istore 5, 2) := by decide +kernel
theorem dX1_ranks_60 : decode cX1_ranks 60 = .ok (.iload 4, 2) := by decide +kernel
theorem dX1_ranks_62 : decode cX1_ranks 62 = .ok (.aload_n 0, 1) := by decide +kernel
theorem dX1_ranks_63 : decode cX1_ranks 63 = .ok (.getfield 39, 3) := by decide +kernel
theorem dX1_ranks_66 : decode cX1_ranks 66 = .ok (.irem, 1) := by decide +kernel
theorem dX1_ranks_67 : decode cX1_ranks 67 = .ok (.istore 6, 2) := by decide +kernel
theorem dX1_ranks_69 : decode cX1_ranks 69 = .ok (.aload_n 0, 1) := by decide +kernel
theorem dX1_ranks_70 : decode cX1_ranks 70 = .ok (.iload 5, 2) := by decide +kernel
theorem dX1_ranks_72 : decode cX1_ranks 72 = .ok (.invokevirtual 58, 3) := by decide +kernel
theorem dX1_ranks_75 : decode cX1_ranks 75 = .ok (.istore 7, 2) := by decide +kernel
theorem dX1_ranks_77 : decode cX1_ranks 77 = .ok (.iload 5, 2) := by decide +kernel
theorem dX1_ranks_79 : decode cX1_ranks 79 = .ok (.iload 6, 2) := by decide +kernel
theorem dX1_ranks_81 : decode cX1_ranks 81 = .ok (.ishr, 1) := by decide +kernel
theorem dX1_ranks_82 : decode cX1_ranks 82 = .ok (.iconst 1, 1) := by decide +kernel
theorem dX1_ranks_83 : decode cX1_ranks 83 = .ok (.iand, 1) := by decide +kernel
theorem dX1_ranks_84 : decode cX1_ranks 84 = .ok (.ifCond .ne 18, 3) := by decide +kernel
theorem dX1_ranks_87 : decode cX1_ranks 87 = .ok (.iload 7, 2) := by decide +kernel
theorem dX1_ranks_89 : decode cX1_ranks 89 = .ok (.aload_n 0, 1) := by decide +kernel
theorem dX1_ranks_90 : decode cX1_ranks 90 = .ok (.getfield 39, 3) := by decide +kernel
theorem dX1_ranks_93 : decode cX1_ranks 93 = .ok (.iload_n 2, 1) := by decide +kernel
theorem dX1_ranks_94 : decode cX1_ranks 94 = .ok (.isub, 1) := by decide +kernel
theorem dX1_ranks_95 : decode cX1_ranks 95 = .ok (.if_icmp .ne 7, 3) := by decide +kernel
theorem dX1_ranks_98 : decode cX1_ranks 98 = .ok (.iconst 1, 1) := by decide +kernel
theorem dX1_ranks_99 : decode cX1_ranks 99 = .ok (.goto 4, 3) := by decide +kernel
theorem dX1_ranks_102 : decode cX1_ranks 102 = .ok (.iconst 0, 1) := by decide +kernel
theorem dX1_ranks_103 : decode cX1_ranks 103 = .ok (.istore 8, 2) := by decide +kernel
theorem dX1_ranks_105 : decode cX1_ranks 105 = .ok (.aload_n 0, 1) := by decide +kernel
theorem dX1_ranks_106 : decode cX1_ranks 106 = .ok (.getfield 23, 3) := by decide +kernel
theorem dX1_ranks_109 : decode cX1_ranks 109 = .ok (.iload 5, 2) := by decide +kernel
theorem dX1_ranks_111 : decode cX1_ranks 111 = .ok (.saload, 1) := by decide +kernel
theorem dX1_ranks_112 : decode cX1_ranks 112 = .ok (.iload_n 1, 1) := by decide +kernel
theorem dX1_ranks_113 : decode cX1_ranks 113 = .ok (.ishr, 1) := by decide +kernel
theorem dX1_ranks_114 : decode cX1_ranks 114 = .ok (.iconst 1, 1) := by decide +kernel
theorem dX1_ranks_115 : decode cX1_ranks 115 = .ok (.iand, 1) := by decide +kernel
theorem dX1_ranks_116 : decode cX1_ranks 116 = .ok (.istore 9, 2) := by decide +kernel
theorem dX1_ranks_118 : decode cX1_ranks 118 = .ok (.aload_n 0, 1) := by decide +kernel
theorem dX1_ranks_119 : decode cX1_ranks 119 = .ok (.getfield 23, 3) := by decide +kernel
theorem dX1_ranks_122 : decode cX1_ranks 122 = .ok (.iload 5, 2) := by decide +kernel
theorem dX1_ranks_124 : decode cX1_ranks 124 = .ok (.iconst 1, 1) := by decide +kernel
theorem dX1_ranks_125 : decode cX1_ranks 125 = .ok (.iload 6, 2) := by decide +kernel
theorem dX1_ranks_127 : decode cX1_ranks 127 = .ok (.ishl, 1) := by decide +kernel
theorem dX1_ranks_128 : decode cX1_ranks 128 = .ok (.ior, 1) := by decide +kernel
theorem dX1_ranks_129 : decode cX1_ranks 129 = .ok (.saload, 1) := by decide +kernel
theorem dX1_ranks_130 : decode cX1_ranks 130 = .ok (.iload_n 1, 1) := by decide +kernel
theorem dX1_ranks_131 : decode cX1_ranks 131 = .ok (.ishr, 1) := by decide +kernel
theorem dX1_ranks_132 : decode cX1_ranks 132 = .ok (.iconst 1, 1) := by decide +kernel
theorem dX1_ranks_133 : decode cX1_ranks 133 = .ok (.iand, 1) := by decide +kernel
theorem dX1_ranks_134 : decode cX1_ranks 134 = .ok (.istore 10, 2) := by decide +kernel
theorem dX1_ranks_136 : decode cX1_ranks 136 = .ok (.iload 8, 2) := by decide +kernel
theorem dX1_ranks_138 : decode cX1_ranks 138 = .ok (.ifCond .eq 21, 3) := by decide +kernel
theorem dX1_ranks_141 : decode cX1_ranks 141 = .ok (.iload 9, 2) := by decide +kernel
theorem dX1_ranks_143 : decode cX1_ranks 143 = .ok (.iload 10, 2) := by decide +kernel
theorem dX1_ranks_145 : decode cX1_ranks 145 = .ok (.if_icmp .eq 14, 3) := by decide +kernel
theorem dX1_ranks_148 : decode cX1_ranks 148 = .ok (.iload_n 3, 1) := by decide +kernel
theorem dX1_ranks_149 : decode cX1_ranks 149 = .ok (.aload_n 0, 1) := by decide +kernel
theorem dX1_ranks_150 : decode cX1_ranks 150 = .ok (.iload 5, 2) := by decide +kernel
theorem dX1_ranks_152 : decode cX1_ranks 152 = .ok (.invokevirtual 69, 3) := by decide +kernel
theorem dX1_ranks_155 : decode cX1_ranks 155 = .ok (.iadd, 1) := by decide +kernel
theorem dX1_ranks_156 : decode cX1_ranks 156 = .ok (.goto 4, 3) := by decide +kernel
theorem dX1_ranks_159 : decode cX1_ranks 159 = .ok (.iload_n 3, 1) := by decide +kernel
theorem dX1_ranks_160 : decode cX1_ranks 160 = .ok (.istore_n 3, 1) := by decide +kernel
theorem dX1_ranks_161 : decode cX1_ranks 161 = .ok (.iinc 4 1, 3) := by decide +kernel
theorem dX1_ranks_164 : decode cX1_ranks 164 = .ok (.goto (-127), 3) := by decide +kernel
theorem dX1_ranks_167 : decode cX1_ranks 167 = .ok (.iload_n 3, 1) := by decide +kernel
theorem dX1_ranks_168 : decode cX1_ranks 168 = .ok (.ireturn, 1) := by decide +kernel
abbrev cX1_ordersAt : ByteArray := prog_1_method_18_code
def yX1_ordersAt : MethodName := ⟨RX1, "ordersAt", "(I)I"⟩
theorem dX1_ordersAt_0 : decode cX1_ordersAt 0 = .ok (.aload_n 0, 1) := by decide +kernel
theorem dX1_ordersAt_1 : decode cX1_ordersAt 1 = .ok (.iload_n 1, 1) := by decide +kernel
theorem dX1_ordersAt_2 : decode cX1_ordersAt 2 = .ok (.invokevirtual 58, 3) := by decide +kernel
theorem dX1_ordersAt_5 : decode cX1_ordersAt 5 = .ok (.istore_n 2, 1) := by decide +kernel
theorem dX1_ordersAt_6 : decode cX1_ordersAt 6 = .ok (.aload_n 0, 1) := by decide +kernel
theorem dX1_ordersAt_7 : decode cX1_ordersAt 7 = .ok (.getfield 36, 3) := by decide +kernel
theorem dX1_ordersAt_10 : decode cX1_ordersAt 10 = .ok (.iload_n 2, 1) := by decide +kernel
theorem dX1_ordersAt_11 : decode cX1_ordersAt 11 = .ok (.iaload, 1) := by decide +kernel
theorem dX1_ordersAt_12 : decode cX1_ordersAt 12 = .ok (.aload_n 0, 1) := by decide +kernel
theorem dX1_ordersAt_13 : decode cX1_ordersAt 13 = .ok (.getfield 36, 3) := by decide +kernel
theorem dX1_ordersAt_16 : decode cX1_ordersAt 16 = .ok (.aload_n 0, 1) := by decide +kernel
theorem dX1_ordersAt_17 : decode cX1_ordersAt 17 = .ok (.getfield 39, 3) := by decide +kernel
theorem dX1_ordersAt_20 : decode cX1_ordersAt 20 = .ok (.iconst 1, 1) := by decide +kernel
theorem dX1_ordersAt_21 : decode cX1_ordersAt 21 = .ok (.isub, 1) := by decide +kernel
theorem dX1_ordersAt_22 : decode cX1_ordersAt 22 = .ok (.iload_n 2, 1) := by decide +kernel
theorem dX1_ordersAt_23 : decode cX1_ordersAt 23 = .ok (.isub, 1) := by decide +kernel
theorem dX1_ordersAt_24 : decode cX1_ordersAt 24 = .ok (.iaload, 1) := by decide +kernel
theorem dX1_ordersAt_25 : decode cX1_ordersAt 25 = .ok (.imul, 1) := by decide +kernel
theorem dX1_ordersAt_26 : decode cX1_ordersAt 26 = .ok (.ireturn, 1) := by decide +kernel
abbrev cX1_works : ByteArray := prog_1_method_21_code
def yX1_works : MethodName := ⟨RX1, "works", "(I)I"⟩
theorem dX1_works_0 : decode cX1_works 0 = .ok (.iload_n 1, 1) := by decide +kernel
theorem dX1_works_1 : decode cX1_works 1 = .ok (.ifCond .lt 11, 3) := by decide +kernel
theorem dX1_works_4 : decode cX1_works 4 = .ok (.iload_n 1, 1) := by decide +kernel
theorem dX1_works_5 : decode cX1_works 5 = .ok (.aload_n 0, 1) := by decide +kernel
theorem dX1_works_6 : decode cX1_works 6 = .ok (.getfield 47, 3) := by decide +kernel
theorem dX1_works_9 : decode cX1_works 9 = .ok (.if_icmp .lt 6, 3) := by decide +kernel
theorem dX1_works_12 : decode cX1_works 12 = .ok (.bipush (-4), 2) := by decide +kernel
theorem dX1_works_14 : decode cX1_works 14 = .ok (.ireturn, 1) := by decide +kernel
theorem dX1_works_15 : decode cX1_works 15 = .ok (.aload_n 0, 1) := by decide +kernel
theorem dX1_works_16 : decode cX1_works 16 = .ok (.iload_n 1, 1) := by decide +kernel
theorem dX1_works_17 : decode cX1_works 17 = .ok (.iconst (-1), 1) := by decide +kernel
theorem dX1_works_18 : decode cX1_works 18 = .ok (.invokevirtual 62, 3) := by decide +kernel
theorem dX1_works_21 : decode cX1_works 21 = .ok (.aload_n 0, 1) := by decide +kernel
theorem dX1_works_22 : decode cX1_works 22 = .ok (.aload_n 0, 1) := by decide +kernel
theorem dX1_works_23 : decode cX1_works 23 = .ok (.getfield 13, 3) := by decide +kernel
theorem dX1_works_26 : decode cX1_works 26 = .ok (.iload_n 1, 1) := by decide +kernel
theorem dX1_works_27 : decode cX1_works 27 = .ok (.baload, 1) := by decide +kernel
theorem dX1_works_28 : decode cX1_works 28 = .ok (.aload_n 0, 1) := by decide +kernel
theorem dX1_works_29 : decode cX1_works 29 = .ok (.getfield 7, 3) := by decide +kernel
theorem dX1_works_32 : decode cX1_works 32 = .ok (.iload_n 1, 1) := by decide +kernel
theorem dX1_works_33 : decode cX1_works 33 = .ok (.baload, 1) := by decide +kernel
theorem dX1_works_34 : decode cX1_works 34 = .ok (.invokevirtual 72, 3) := by decide +kernel
theorem dX1_works_37 : decode cX1_works 37 = .ok (.ireturn, 1) := by decide +kernel
abbrev cX1_lessOn : ByteArray := prog_1_method_20_code
def yX1_lessOn : MethodName := ⟨RX1, "lessOn", "(II)I"⟩
theorem dX1_lessOn_0 : decode cX1_lessOn 0 = .ok (.iconst 0, 1) := by decide +kernel
theorem dX1_lessOn_1 : decode cX1_lessOn 1 = .ok (.istore_n 3, 1) := by decide +kernel
theorem dX1_lessOn_2 : decode cX1_lessOn 2 = .ok (.iconst 0, 1) := by decide +kernel
theorem dX1_lessOn_3 : decode cX1_lessOn 3 = .ok (.istore 4, 2) := by decide +kernel
theorem dX1_lessOn_5 : decode cX1_lessOn 5 = .ok (.iload 4, 2) := by decide +kernel
theorem dX1_lessOn_7 : decode cX1_lessOn 7 = .ok (.aload_n 0, 1) := by decide +kernel
theorem dX1_lessOn_8 : decode cX1_lessOn 8 = .ok (.getfield 39, 3) := by decide +kernel
theorem dX1_lessOn_11 : decode cX1_lessOn 11 = .ok (.aload_n 0, 1) := by decide +kernel
theorem dX1_lessOn_12 : decode cX1_lessOn 12 = .ok (.getfield 39, 3) := by decide +kernel
theorem dX1_lessOn_15 : decode cX1_lessOn 15 = .ok (.ishl, 1) := by decide +kernel
theorem dX1_lessOn_16 : decode cX1_lessOn 16 = .ok (.if_icmp .ge 113, 3) := by decide +kernel
theorem dX1_lessOn_19 : decode cX1_lessOn 19 = .ok (.iload 4, 2) := by decide +kernel
theorem dX1_lessOn_21 : decode cX1_lessOn 21 = .ok (.aload_n 0, 1) := by decide +kernel
theorem dX1_lessOn_22 : decode cX1_lessOn 22 = .ok (.getfield 39, 3) := by decide +kernel
theorem dX1_lessOn_25 : decode cX1_lessOn 25 = .ok (.idiv, 1) := by decide +kernel
theorem dX1_lessOn_26 : decode cX1_lessOn 26 = .ok (.istore 5, 2) := by decide +kernel
theorem dX1_lessOn_28 : decode cX1_lessOn 28 = .ok (.iload 4, 2) := by decide +kernel
theorem dX1_lessOn_30 : decode cX1_lessOn 30 = .ok (.aload_n 0, 1) := by decide +kernel
theorem dX1_lessOn_31 : decode cX1_lessOn 31 = .ok (.getfield 39, 3) := by decide +kernel
theorem dX1_lessOn_34 : decode cX1_lessOn 34 = .ok (.irem, 1) := by decide +kernel
theorem dX1_lessOn_35 : decode cX1_lessOn 35 = .ok (.istore 6, 2) := by decide +kernel
theorem dX1_lessOn_37 : decode cX1_lessOn 37 = .ok (.aload_n 0, 1) := by decide +kernel
theorem dX1_lessOn_38 : decode cX1_lessOn 38 = .ok (.getfield 23, 3) := by decide +kernel
theorem dX1_lessOn_41 : decode cX1_lessOn 41 = .ok (.iload 5, 2) := by decide +kernel
theorem dX1_lessOn_43 : decode cX1_lessOn 43 = .ok (.saload, 1) := by decide +kernel
theorem dX1_lessOn_44 : decode cX1_lessOn 44 = .ok (.istore 7, 2) := by decide +kernel
theorem dX1_lessOn_46 : decode cX1_lessOn 46 = .ok (.aload_n 0, 1) := by decide +kernel
theorem dX1_lessOn_47 : decode cX1_lessOn 47 = .ok (.getfield 23, 3) := by decide +kernel
theorem dX1_lessOn_50 : decode cX1_lessOn 50 = .ok (.iload 5, 2) := by decide +kernel
theorem dX1_lessOn_52 : decode cX1_lessOn 52 = .ok (.iconst 1, 1) := by decide +kernel
theorem dX1_lessOn_53 : decode cX1_lessOn 53 = .ok (.iload 6, 2) := by decide +kernel
theorem dX1_lessOn_55 : decode cX1_lessOn 55 = .ok (.ishl, 1) := by decide +kernel
theorem dX1_lessOn_56 : decode cX1_lessOn 56 = .ok (.ior, 1) := by decide +kernel
theorem dX1_lessOn_57 : decode cX1_lessOn 57 = .ok (.saload, 1) := by decide +kernel
theorem dX1_lessOn_58 : decode cX1_lessOn 58 = .ok (.istore 8, 2) := by decide +kernel
theorem dX1_lessOn_60 : decode cX1_lessOn 60 = .ok (.iload 5, 2) := by decide +kernel
theorem dX1_lessOn_62 : decode cX1_lessOn 62 = .ok (.iload 6, 2) := by decide +kernel
theorem dX1_lessOn_64 : decode cX1_lessOn 64 = .ok (.ishr, 1) := by decide +kernel
theorem dX1_lessOn_65 : decode cX1_lessOn 65 = .ok (.iconst 1, 1) := by decide +kernel
theorem dX1_lessOn_66 : decode cX1_lessOn 66 = .ok (.iand, 1) := by decide +kernel
theorem dX1_lessOn_67 : decode cX1_lessOn 67 = .ok (.ifCond .ne 35, 3) := by decide +kernel
theorem dX1_lessOn_70 : decode cX1_lessOn 70 = .ok (.iload 7, 2) := by decide +kernel
theorem dX1_lessOn_72 : decode cX1_lessOn 72 = .ok (.iload_n 2, 1) := by decide +kernel
theorem dX1_lessOn_73 : decode cX1_lessOn 73 = .ok (.ishr, 1) := by decide +kernel
theorem dX1_lessOn_74 : decode cX1_lessOn 74 = .ok (.iconst 1, 1) := by decide +kernel
theorem dX1_lessOn_75 : decode cX1_lessOn 75 = .ok (.iand, 1) := by decide +kernel
theorem dX1_lessOn_76 : decode cX1_lessOn 76 = .ok (.ifCond .ne 26, 3) := by decide +kernel
theorem dX1_lessOn_79 : decode cX1_lessOn 79 = .ok (.iload 8, 2) := by decide +kernel
theorem dX1_lessOn_81 : decode cX1_lessOn 81 = .ok (.iload_n 2, 1) := by decide +kernel
theorem dX1_lessOn_82 : decode cX1_lessOn 82 = .ok (.ishr, 1) := by decide +kernel
theorem dX1_lessOn_83 : decode cX1_lessOn 83 = .ok (.iconst 1, 1) := by decide +kernel
theorem dX1_lessOn_84 : decode cX1_lessOn 84 = .ok (.iand, 1) := by decide +kernel
theorem dX1_lessOn_85 : decode cX1_lessOn 85 = .ok (.iconst 1, 1) := by decide +kernel
theorem dX1_lessOn_86 : decode cX1_lessOn 86 = .ok (.if_icmp .ne 16, 3) := by decide +kernel
theorem dX1_lessOn_89 : decode cX1_lessOn 89 = .ok (.iload 8, 2) := by decide +kernel
theorem dX1_lessOn_91 : decode cX1_lessOn 91 = .ok (.iload_n 1, 1) := by decide +kernel
theorem dX1_lessOn_92 : decode cX1_lessOn 92 = .ok (.ishr, 1) := by decide +kernel
theorem dX1_lessOn_93 : decode cX1_lessOn 93 = .ok (.iconst 1, 1) := by decide +kernel
theorem dX1_lessOn_94 : decode cX1_lessOn 94 = .ok (.iand, 1) := by decide +kernel
theorem dX1_lessOn_95 : decode cX1_lessOn 95 = .ok (.ifCond .ne 7, 3) := by decide +kernel
theorem dX1_lessOn_98 : decode cX1_lessOn 98 = .ok (.iconst 1, 1) := by decide +kernel
theorem dX1_lessOn_99 : decode cX1_lessOn 99 = .ok (.goto 4, 3) := by decide +kernel
theorem dX1_lessOn_102 : decode cX1_lessOn 102 = .ok (.iconst 0, 1) := by decide +kernel
theorem dX1_lessOn_103 : decode cX1_lessOn 103 = .ok (.istore 9, 2) := by decide +kernel
theorem dX1_lessOn_105 : decode cX1_lessOn 105 = .ok (.iload 9, 2) := by decide +kernel
theorem dX1_lessOn_107 : decode cX1_lessOn 107 = .ok (.ifCond .eq 14, 3) := by decide +kernel
theorem dX1_lessOn_110 : decode cX1_lessOn 110 = .ok (.iload_n 3, 1) := by decide +kernel
theorem dX1_lessOn_111 : decode cX1_lessOn 111 = .ok (.aload_n 0, 1) := by decide +kernel
theorem dX1_lessOn_112 : decode cX1_lessOn 112 = .ok (.iload 5, 2) := by decide +kernel
theorem dX1_lessOn_114 : decode cX1_lessOn 114 = .ok (.invokevirtual 69, 3) := by decide +kernel
theorem dX1_lessOn_117 : decode cX1_lessOn 117 = .ok (.iadd, 1) := by decide +kernel
theorem dX1_lessOn_118 : decode cX1_lessOn 118 = .ok (.goto 4, 3) := by decide +kernel
theorem dX1_lessOn_121 : decode cX1_lessOn 121 = .ok (.iload_n 3, 1) := by decide +kernel
theorem dX1_lessOn_122 : decode cX1_lessOn 122 = .ok (.istore_n 3, 1) := by decide +kernel
theorem dX1_lessOn_123 : decode cX1_lessOn 123 = .ok (.iinc 4 1, 3) := by decide +kernel
theorem dX1_lessOn_126 : decode cX1_lessOn 126 = .ok (.goto (-121), 3) := by decide +kernel
theorem dX1_lessOn_129 : decode cX1_lessOn 129 = .ok (.iload_n 3, 1) := by decide +kernel
theorem dX1_lessOn_130 : decode cX1_lessOn 130 = .ok (.ireturn, 1) := by decide +kernel
end
section
set_option maxRecDepth 100000
abbrev cX1_below : ByteArray := prog_1_method_22_code
def yX1_below : MethodName := ⟨RX1, "below", "(II)I"⟩
theorem dX1_below_0 : decode cX1_below 0 = .ok (.aload_n 0, 1) := by decide +kernel
theorem dX1_below_1 : decode cX1_below 1 = .ok (.iload_n 1, 1) := by decide +kernel
theorem dX1_below_2 : decode cX1_below 2 = .ok (.invokevirtual 43, 3) := by decide +kernel
theorem dX1_below_5 : decode cX1_below 5 = .ok (.ifCond .ne 11, 3) := by decide +kernel
theorem dX1_below_8 : decode cX1_below 8 = .ok (.aload_n 0, 1) := by decide +kernel
theorem dX1_below_9 : decode cX1_below 9 = .ok (.iload_n 2, 1) := by decide +kernel
theorem dX1_below_10 : decode cX1_below 10 = .ok (.invokevirtual 43, 3) := by decide +kernel
theorem dX1_below_13 : decode cX1_below 13 = .ok (.ifCond .eq 5, 3) := by decide +kernel
theorem dX1_below_16 : decode cX1_below 16 = .ok (.iconst (-1), 1) := by decide +kernel
theorem dX1_below_17 : decode cX1_below 17 = .ok (.ireturn, 1) := by decide +kernel
theorem dX1_below_18 : decode cX1_below 18 = .ok (.aload_n 0, 1) := by decide +kernel
theorem dX1_below_19 : decode cX1_below 19 = .ok (.aload_n 0, 1) := by decide +kernel
theorem dX1_below_20 : decode cX1_below 20 = .ok (.getfield 47, 3) := by decide +kernel
theorem dX1_below_23 : decode cX1_below 23 = .ok (.iconst (-1), 1) := by decide +kernel
theorem dX1_below_24 : decode cX1_below 24 = .ok (.invokevirtual 62, 3) := by decide +kernel
theorem dX1_below_27 : decode cX1_below 27 = .ok (.aload_n 0, 1) := by decide +kernel
theorem dX1_below_28 : decode cX1_below 28 = .ok (.iload_n 1, 1) := by decide +kernel
theorem dX1_below_29 : decode cX1_below 29 = .ok (.iload_n 2, 1) := by decide +kernel
theorem dX1_below_30 : decode cX1_below 30 = .ok (.invokevirtual 72, 3) := by decide +kernel
theorem dX1_below_33 : decode cX1_below 33 = .ok (.ireturn, 1) := by decide +kernel
abbrev cX1_idle : ByteArray := prog_1_method_24_code
def yX1_idle : MethodName := ⟨RX1, "idle", "()I"⟩
theorem dX1_idle_0 : decode cX1_idle 0 = .ok (.aload_n 0, 1) := by decide +kernel
theorem dX1_idle_1 : decode cX1_idle 1 = .ok (.aload_n 0, 1) := by decide +kernel
theorem dX1_idle_2 : decode cX1_idle 2 = .ok (.getfield 47, 3) := by decide +kernel
theorem dX1_idle_5 : decode cX1_idle 5 = .ok (.iconst (-1), 1) := by decide +kernel
theorem dX1_idle_6 : decode cX1_idle 6 = .ok (.invokevirtual 62, 3) := by decide +kernel
theorem dX1_idle_9 : decode cX1_idle 9 = .ok (.iconst 0, 1) := by decide +kernel
theorem dX1_idle_10 : decode cX1_idle 10 = .ok (.istore_n 1, 1) := by decide +kernel
theorem dX1_idle_11 : decode cX1_idle 11 = .ok (.iload_n 1, 1) := by decide +kernel
theorem dX1_idle_12 : decode cX1_idle 12 = .ok (.iconst 1, 1) := by decide +kernel
theorem dX1_idle_13 : decode cX1_idle 13 = .ok (.aload_n 0, 1) := by decide +kernel
theorem dX1_idle_14 : decode cX1_idle 14 = .ok (.getfield 39, 3) := by decide +kernel
theorem dX1_idle_17 : decode cX1_idle 17 = .ok (.ishl, 1) := by decide +kernel
theorem dX1_idle_18 : decode cX1_idle 18 = .ok (.if_icmp .ge 21, 3) := by decide +kernel
theorem dX1_idle_21 : decode cX1_idle 21 = .ok (.aload_n 0, 1) := by decide +kernel
theorem dX1_idle_22 : decode cX1_idle 22 = .ok (.getfield 27, 3) := by decide +kernel
theorem dX1_idle_25 : decode cX1_idle 25 = .ok (.iload_n 1, 1) := by decide +kernel
theorem dX1_idle_26 : decode cX1_idle 26 = .ok (.aload_n 0, 1) := by decide +kernel
theorem dX1_idle_27 : decode cX1_idle 27 = .ok (.getfield 23, 3) := by decide +kernel
theorem dX1_idle_30 : decode cX1_idle 30 = .ok (.iload_n 1, 1) := by decide +kernel
theorem dX1_idle_31 : decode cX1_idle 31 = .ok (.saload, 1) := by decide +kernel
theorem dX1_idle_32 : decode cX1_idle 32 = .ok (.sastore, 1) := by decide +kernel
theorem dX1_idle_33 : decode cX1_idle 33 = .ok (.iinc 1 1, 3) := by decide +kernel
theorem dX1_idle_36 : decode cX1_idle 36 = .ok (.goto (-25), 3) := by decide +kernel
theorem dX1_idle_39 : decode cX1_idle 39 = .ok (.iconst 0, 1) := by decide +kernel
theorem dX1_idle_40 : decode cX1_idle 40 = .ok (.istore_n 1, 1) := by decide +kernel
theorem dX1_idle_41 : decode cX1_idle 41 = .ok (.iconst 0, 1) := by decide +kernel
theorem dX1_idle_42 : decode cX1_idle 42 = .ok (.istore_n 2, 1) := by decide +kernel
theorem dX1_idle_43 : decode cX1_idle 43 = .ok (.iload_n 2, 1) := by decide +kernel
theorem dX1_idle_44 : decode cX1_idle 44 = .ok (.aload_n 0, 1) := by decide +kernel
theorem dX1_idle_45 : decode cX1_idle 45 = .ok (.getfield 47, 3) := by decide +kernel
theorem dX1_idle_48 : decode cX1_idle 48 = .ok (.if_icmp .ge 27, 3) := by decide +kernel
theorem dX1_idle_51 : decode cX1_idle 51 = .ok (.aload_n 0, 1) := by decide +kernel
theorem dX1_idle_52 : decode cX1_idle 52 = .ok (.iload_n 2, 1) := by decide +kernel
theorem dX1_idle_53 : decode cX1_idle 53 = .ok (.invokevirtual 75, 3) := by decide +kernel
theorem dX1_idle_56 : decode cX1_idle 56 = .ok (.istore_n 3, 1) := by decide +kernel
theorem dX1_idle_57 : decode cX1_idle 57 = .ok (.iload_n 3, 1) := by decide +kernel
theorem dX1_idle_58 : decode cX1_idle 58 = .ok (.ifCond .eq 9, 3) := by decide +kernel
theorem dX1_idle_61 : decode cX1_idle 61 = .ok (.iload_n 1, 1) := by decide +kernel
theorem dX1_idle_62 : decode cX1_idle 62 = .ok (.iconst 1, 1) := by decide +kernel
theorem dX1_idle_63 : decode cX1_idle 63 = .ok (.iadd, 1) := by decide +kernel
theorem dX1_idle_64 : decode cX1_idle 64 = .ok (.goto 4, 3) := by decide +kernel
theorem dX1_idle_67 : decode cX1_idle 67 = .ok (.iload_n 1, 1) := by decide +kernel
theorem dX1_idle_68 : decode cX1_idle 68 = .ok (.istore_n 1, 1) := by decide +kernel
theorem dX1_idle_69 : decode cX1_idle 69 = .ok (.iinc 2 1, 3) := by decide +kernel
theorem dX1_idle_72 : decode cX1_idle 72 = .ok (.goto (-29), 3) := by decide +kernel
theorem dX1_idle_75 : decode cX1_idle 75 = .ok (.iload_n 1, 1) := by decide +kernel
theorem dX1_idle_76 : decode cX1_idle 76 = .ok (.ireturn, 1) := by decide +kernel
abbrev cX1_sameWithout : ByteArray := prog_1_method_23_code
def yX1_sameWithout : MethodName := ⟨RX1, "sameWithout", "(I)Z"⟩
theorem dX1_sameWithout_0 : decode cX1_sameWithout 0 = .ok (.aload_n 0, 1) := by decide +kernel
theorem dX1_sameWithout_1 : decode cX1_sameWithout 1 = .ok (.aload_n 0, 1) := by decide +kernel
theorem dX1_sameWithout_2 : decode cX1_sameWithout 2 = .ok (.getfield 47, 3) := by decide +kernel
theorem dX1_sameWithout_5 : decode cX1_sameWithout 5 = .ok (.iload_n 1, 1) := by decide +kernel
theorem dX1_sameWithout_6 : decode cX1_sameWithout 6 = .ok (.invokevirtual 62, 3) := by decide +kernel
theorem dX1_sameWithout_9 : decode cX1_sameWithout 9 = .ok (.iconst 1, 1) := by decide +kernel
theorem dX1_sameWithout_10 : decode cX1_sameWithout 10 = .ok (.istore_n 2, 1) := by decide +kernel
theorem dX1_sameWithout_11 : decode cX1_sameWithout 11 = .ok (.iconst 0, 1) := by decide +kernel
theorem dX1_sameWithout_12 : decode cX1_sameWithout 12 = .ok (.istore_n 3, 1) := by decide +kernel
theorem dX1_sameWithout_13 : decode cX1_sameWithout 13 = .ok (.iload_n 3, 1) := by decide +kernel
theorem dX1_sameWithout_14 : decode cX1_sameWithout 14 = .ok (.iconst 1, 1) := by decide +kernel
theorem dX1_sameWithout_15 : decode cX1_sameWithout 15 = .ok (.aload_n 0, 1) := by decide +kernel
theorem dX1_sameWithout_16 : decode cX1_sameWithout 16 = .ok (.getfield 39, 3) := by decide +kernel
theorem dX1_sameWithout_19 : decode cX1_sameWithout 19 = .ok (.ishl, 1) := by decide +kernel
theorem dX1_sameWithout_20 : decode cX1_sameWithout 20 = .ok (.if_icmp .ge 34, 3) := by decide +kernel
theorem dX1_sameWithout_23 : decode cX1_sameWithout 23 = .ok (.iload_n 2, 1) := by decide +kernel
theorem dX1_sameWithout_24 : decode cX1_sameWithout 24 = .ok (.ifCond .eq 22, 3) := by decide +kernel
theorem dX1_sameWithout_27 : decode cX1_sameWithout 27 = .ok (.aload_n 0, 1) := by decide +kernel
theorem dX1_sameWithout_28 : decode cX1_sameWithout 28 = .ok (.getfield 23, 3) := by decide +kernel
theorem dX1_sameWithout_31 : decode cX1_sameWithout 31 = .ok (.iload_n 3, 1) := by decide +kernel
theorem dX1_sameWithout_32 : decode cX1_sameWithout 32 = .ok (.saload, 1) := by decide +kernel
theorem dX1_sameWithout_33 : decode cX1_sameWithout 33 = .ok (.aload_n 0, 1) := by decide +kernel
theorem dX1_sameWithout_34 : decode cX1_sameWithout 34 = .ok (.getfield 27, 3) := by decide +kernel
theorem dX1_sameWithout_37 : decode cX1_sameWithout 37 = .ok (.iload_n 3, 1) := by decide +kernel
theorem dX1_sameWithout_38 : decode cX1_sameWithout 38 = .ok (.saload, 1) := by decide +kernel
theorem dX1_sameWithout_39 : decode cX1_sameWithout 39 = .ok (.if_icmp .ne 7, 3) := by decide +kernel
theorem dX1_sameWithout_42 : decode cX1_sameWithout 42 = .ok (.iconst 1, 1) := by decide +kernel
theorem dX1_sameWithout_43 : decode cX1_sameWithout 43 = .ok (.goto 4, 3) := by decide +kernel
theorem dX1_sameWithout_46 : decode cX1_sameWithout 46 = .ok (.iconst 0, 1) := by decide +kernel
theorem dX1_sameWithout_47 : decode cX1_sameWithout 47 = .ok (.istore_n 2, 1) := by decide +kernel
theorem dX1_sameWithout_48 : decode cX1_sameWithout 48 = .ok (.iinc 3 1, 3) := by decide +kernel
theorem dX1_sameWithout_51 : decode cX1_sameWithout 51 = .ok (.goto (-38), 3) := by decide +kernel
theorem dX1_sameWithout_54 : decode cX1_sameWithout 54 = .ok (.iload_n 2, 1) := by decide +kernel
theorem dX1_sameWithout_55 : decode cX1_sameWithout 55 = .ok (.ireturn, 1) := by decide +kernel
abbrev cX1_rounds : ByteArray := prog_1_method_25_code
def yX1_rounds : MethodName := ⟨RX1, "rounds", "()I"⟩
theorem dX1_rounds_0 : decode cX1_rounds 0 = .ok (.iconst 0, 1) := by decide +kernel
theorem dX1_rounds_1 : decode cX1_rounds 1 = .ok (.istore_n 1, 1) := by decide +kernel
theorem dX1_rounds_2 : decode cX1_rounds 2 = .ok (.iconst 0, 1) := by decide +kernel
theorem dX1_rounds_3 : decode cX1_rounds 3 = .ok (.istore_n 2, 1) := by decide +kernel
theorem dX1_rounds_4 : decode cX1_rounds 4 = .ok (.iload_n 2, 1) := by decide +kernel
theorem dX1_rounds_5 : decode cX1_rounds 5 = .ok (.aload_n 0, 1) := by decide +kernel
theorem dX1_rounds_6 : decode cX1_rounds 6 = .ok (.getfield 39, 3) := by decide +kernel
theorem dX1_rounds_9 : decode cX1_rounds 9 = .ok (.if_icmp .ge 16, 3) := by decide +kernel
theorem dX1_rounds_12 : decode cX1_rounds 12 = .ok (.aload_n 0, 1) := by decide +kernel
theorem dX1_rounds_13 : decode cX1_rounds 13 = .ok (.getfield 33, 3) := by decide +kernel
theorem dX1_rounds_16 : decode cX1_rounds 16 = .ok (.iload_n 2, 1) := by decide +kernel
theorem dX1_rounds_17 : decode cX1_rounds 17 = .ok (.iconst 0, 1) := by decide +kernel
theorem dX1_rounds_18 : decode cX1_rounds 18 = .ok (.bastore, 1) := by decide +kernel
theorem dX1_rounds_19 : decode cX1_rounds 19 = .ok (.iinc 2 1, 3) := by decide +kernel
theorem dX1_rounds_22 : decode cX1_rounds 22 = .ok (.goto (-18), 3) := by decide +kernel
theorem dX1_rounds_25 : decode cX1_rounds 25 = .ok (.iconst 0, 1) := by decide +kernel
theorem dX1_rounds_26 : decode cX1_rounds 26 = .ok (.istore_n 2, 1) := by decide +kernel
theorem dX1_rounds_27 : decode cX1_rounds 27 = .ok (.iload_n 2, 1) := by decide +kernel
theorem dX1_rounds_28 : decode cX1_rounds 28 = .ok (.aload_n 0, 1) := by decide +kernel
theorem dX1_rounds_29 : decode cX1_rounds 29 = .ok (.getfield 47, 3) := by decide +kernel
theorem dX1_rounds_32 : decode cX1_rounds 32 = .ok (.if_icmp .ge 105, 3) := by decide +kernel
theorem dX1_rounds_35 : decode cX1_rounds 35 = .ok (.aload_n 0, 1) := by decide +kernel
theorem dX1_rounds_36 : decode cX1_rounds 36 = .ok (.getfield 33, 3) := by decide +kernel
theorem dX1_rounds_39 : decode cX1_rounds 39 = .ok (.aload_n 0, 1) := by decide +kernel
theorem dX1_rounds_40 : decode cX1_rounds 40 = .ok (.getfield 7, 3) := by decide +kernel
theorem dX1_rounds_43 : decode cX1_rounds 43 = .ok (.iload_n 2, 1) := by decide +kernel
theorem dX1_rounds_44 : decode cX1_rounds 44 = .ok (.baload, 1) := by decide +kernel
theorem dX1_rounds_45 : decode cX1_rounds 45 = .ok (.baload, 1) := by decide +kernel
theorem dX1_rounds_46 : decode cX1_rounds 46 = .ok (.aload_n 0, 1) := by decide +kernel
theorem dX1_rounds_47 : decode cX1_rounds 47 = .ok (.getfield 33, 3) := by decide +kernel
theorem dX1_rounds_50 : decode cX1_rounds 50 = .ok (.aload_n 0, 1) := by decide +kernel
theorem dX1_rounds_51 : decode cX1_rounds 51 = .ok (.getfield 13, 3) := by decide +kernel
theorem dX1_rounds_54 : decode cX1_rounds 54 = .ok (.iload_n 2, 1) := by decide +kernel
theorem dX1_rounds_55 : decode cX1_rounds 55 = .ok (.baload, 1) := by decide +kernel
theorem dX1_rounds_56 : decode cX1_rounds 56 = .ok (.baload, 1) := by decide +kernel
theorem dX1_rounds_57 : decode cX1_rounds 57 = .ok (.if_icmp .le 17, 3) := by decide +kernel
theorem dX1_rounds_60 : decode cX1_rounds 60 = .ok (.aload_n 0, 1) := by decide +kernel
theorem dX1_rounds_61 : decode cX1_rounds 61 = .ok (.getfield 33, 3) := by decide +kernel
theorem dX1_rounds_64 : decode cX1_rounds 64 = .ok (.aload_n 0, 1) := by decide +kernel
theorem dX1_rounds_65 : decode cX1_rounds 65 = .ok (.getfield 7, 3) := by decide +kernel
theorem dX1_rounds_68 : decode cX1_rounds 68 = .ok (.iload_n 2, 1) := by decide +kernel
theorem dX1_rounds_69 : decode cX1_rounds 69 = .ok (.baload, 1) := by decide +kernel
theorem dX1_rounds_70 : decode cX1_rounds 70 = .ok (.baload, 1) := by decide +kernel
theorem dX1_rounds_71 : decode cX1_rounds 71 = .ok (.goto 14, 3) := by decide +kernel
theorem dX1_rounds_74 : decode cX1_rounds 74 = .ok (.aload_n 0, 1) := by decide +kernel
theorem dX1_rounds_75 : decode cX1_rounds 75 = .ok (.getfield 33, 3) := by decide +kernel
theorem dX1_rounds_78 : decode cX1_rounds 78 = .ok (.aload_n 0, 1) := by decide +kernel
theorem dX1_rounds_79 : decode cX1_rounds 79 = .ok (.getfield 13, 3) := by decide +kernel
theorem dX1_rounds_82 : decode cX1_rounds 82 = .ok (.iload_n 2, 1) := by decide +kernel
theorem dX1_rounds_83 : decode cX1_rounds 83 = .ok (.baload, 1) := by decide +kernel
theorem dX1_rounds_84 : decode cX1_rounds 84 = .ok (.baload, 1) := by decide +kernel
theorem dX1_rounds_85 : decode cX1_rounds 85 = .ok (.istore_n 3, 1) := by decide +kernel
theorem dX1_rounds_86 : decode cX1_rounds 86 = .ok (.aload_n 0, 1) := by decide +kernel
theorem dX1_rounds_87 : decode cX1_rounds 87 = .ok (.getfield 33, 3) := by decide +kernel
theorem dX1_rounds_90 : decode cX1_rounds 90 = .ok (.aload_n 0, 1) := by decide +kernel
theorem dX1_rounds_91 : decode cX1_rounds 91 = .ok (.getfield 7, 3) := by decide +kernel
theorem dX1_rounds_94 : decode cX1_rounds 94 = .ok (.iload_n 2, 1) := by decide +kernel
theorem dX1_rounds_95 : decode cX1_rounds 95 = .ok (.baload, 1) := by decide +kernel
theorem dX1_rounds_96 : decode cX1_rounds 96 = .ok (.iload_n 3, 1) := by decide +kernel
theorem dX1_rounds_97 : decode cX1_rounds 97 = .ok (.iconst 1, 1) := by decide +kernel
theorem dX1_rounds_98 : decode cX1_rounds 98 = .ok (.iadd, 1) := by decide +kernel
theorem dX1_rounds_99 : decode cX1_rounds 99 = .ok (.i2b, 1) := by decide +kernel
theorem dX1_rounds_100 : decode cX1_rounds 100 = .ok (.bastore, 1) := by decide +kernel
theorem dX1_rounds_101 : decode cX1_rounds 101 = .ok (.aload_n 0, 1) := by decide +kernel
theorem dX1_rounds_102 : decode cX1_rounds 102 = .ok (.getfield 33, 3) := by decide +kernel
theorem dX1_rounds_105 : decode cX1_rounds 105 = .ok (.aload_n 0, 1) := by decide +kernel
theorem dX1_rounds_106 : decode cX1_rounds 106 = .ok (.getfield 13, 3) := by decide +kernel
theorem dX1_rounds_109 : decode cX1_rounds 109 = .ok (.iload_n 2, 1) := by decide +kernel
theorem dX1_rounds_110 : decode cX1_rounds 110 = .ok (.baload, 1) := by decide +kernel
theorem dX1_rounds_111 : decode cX1_rounds 111 = .ok (.iload_n 3, 1) := by decide +kernel
theorem dX1_rounds_112 : decode cX1_rounds 112 = .ok (.iconst 1, 1) := by decide +kernel
theorem dX1_rounds_113 : decode cX1_rounds 113 = .ok (.iadd, 1) := by decide +kernel
theorem dX1_rounds_114 : decode cX1_rounds 114 = .ok (.i2b, 1) := by decide +kernel
theorem dX1_rounds_115 : decode cX1_rounds 115 = .ok (.bastore, 1) := by decide +kernel
theorem dX1_rounds_116 : decode cX1_rounds 116 = .ok (.iload_n 3, 1) := by decide +kernel
theorem dX1_rounds_117 : decode cX1_rounds 117 = .ok (.iconst 1, 1) := by decide +kernel
theorem dX1_rounds_118 : decode cX1_rounds 118 = .ok (.iadd, 1) := by decide +kernel
theorem dX1_rounds_119 : decode cX1_rounds 119 = .ok (.iload_n 1, 1) := by decide +kernel
theorem dX1_rounds_120 : decode cX1_rounds 120 = .ok (.if_icmp .le 9, 3) := by decide +kernel
theorem dX1_rounds_123 : decode cX1_rounds 123 = .ok (.iload_n 3, 1) := by decide +kernel
theorem dX1_rounds_124 : decode cX1_rounds 124 = .ok (.iconst 1, 1) := by decide +kernel
theorem dX1_rounds_125 : decode cX1_rounds 125 = .ok (.iadd, 1) := by decide +kernel
theorem dX1_rounds_126 : decode cX1_rounds 126 = .ok (.goto 4, 3) := by decide +kernel
theorem dX1_rounds_129 : decode cX1_rounds 129 = .ok (.iload_n 1, 1) := by decide +kernel
theorem dX1_rounds_130 : decode cX1_rounds 130 = .ok (.istore_n 1, 1) := by decide +kernel
theorem dX1_rounds_131 : decode cX1_rounds 131 = .ok (.iinc 2 1, 3) := by decide +kernel
theorem dX1_rounds_134 : decode cX1_rounds 134 = .ok (.goto (-107), 3) := by decide +kernel
theorem dX1_rounds_137 : decode cX1_rounds 137 = .ok (.iload_n 1, 1) := by decide +kernel
theorem dX1_rounds_138 : decode cX1_rounds 138 = .ok (.ireturn, 1) := by decide +kernel
theorem q19 : (Jvm.Cond.initialized "ComparatorNet") ∈ lw_all := lw_g (lw_at lw_m1 1 rfl) rfl
theorem q22 : (Jvm.Cond.instantiable "ComparatorNet" (11 : Nat)) ∈ lw_all := lw_g (lw_at lw_m1 4 rfl) rfl
theorem q24 : (Jvm.Cond.instanceMethod ({ cls := "ComparatorNet", name := "<init>", desc := "(I)V" } : Jvm.MethodName)) ∈ lw_all := lw_g (lw_at lw_m1 6 rfl) rfl
theorem q25 : (Jvm.Cond.code ({ cls := "ComparatorNet", name := "<init>", desc := "(I)V" } : Jvm.MethodName) prog_1_method_1_code (3 : Nat) (Option.none : Option Jvm.ClassFile.FieldType)) ∈ lw_all := lw_g (lw_at lw_m1 7 rfl) rfl
theorem q26 : (Jvm.Cond.methodLink "ComparatorNet" (1 : Nat) ({ cls := "java/lang/Object", name := "<init>", desc := "()V" } : Jvm.MethodName)) ∈ lw_all := lw_g (lw_at lw_m1 8 rfl) rfl
theorem q29 : (Jvm.Cond.fieldLink "ComparatorNet" (39 : Nat) "ComparatorNet" "n" "I") ∈ lw_all := lw_g (lw_at lw_m1 11 rfl) rfl
theorem q30 : (Jvm.Cond.fieldLink "ComparatorNet" (47 : Nat) "ComparatorNet" "count" "I") ∈ lw_all := lw_g (lw_at lw_m1 12 rfl) rfl
theorem q31 : (Jvm.Cond.fieldLink "ComparatorNet" (7 : Nat) "ComparatorNet" "low" "[B") ∈ lw_all := lw_g (lw_at lw_m1 13 rfl) rfl
theorem q32 : (Jvm.Cond.fieldLink "ComparatorNet" (13 : Nat) "ComparatorNet" "high" "[B") ∈ lw_all := lw_g (lw_at lw_m1 14 rfl) rfl
theorem q33 : (Jvm.Cond.fieldLink "ComparatorNet" (16 : Nat) "ComparatorNet" "given" "[I") ∈ lw_all := lw_g (lw_at lw_m1 15 rfl) rfl
theorem q34 : (Jvm.Cond.fieldLink "ComparatorNet" (20 : Nat) "ComparatorNet" "wire" "[I") ∈ lw_all := lw_g (lw_at lw_m1 16 rfl) rfl
theorem q35 : (Jvm.Cond.fieldLink "ComparatorNet" (23 : Nat) "ComparatorNet" "becomes" "[S") ∈ lw_all := lw_g (lw_at lw_m1 17 rfl) rfl
theorem q36 : (Jvm.Cond.fieldLink "ComparatorNet" (27 : Nat) "ComparatorNet" "whole" "[S") ∈ lw_all := lw_g (lw_at lw_m1 18 rfl) rfl
theorem q37 : (Jvm.Cond.fieldLink "ComparatorNet" (30 : Nat) "ComparatorNet" "chains" "[I") ∈ lw_all := lw_g (lw_at lw_m1 19 rfl) rfl
theorem q38 : (Jvm.Cond.fieldLink "ComparatorNet" (33 : Nat) "ComparatorNet" "round" "[B") ∈ lw_all := lw_g (lw_at lw_m1 20 rfl) rfl
theorem q39 : (Jvm.Cond.fieldLink "ComparatorNet" (36 : Nat) "ComparatorNet" "product" "[I") ∈ lw_all := lw_g (lw_at lw_m1 21 rfl) rfl
theorem q40 : (Jvm.Cond.laysFinal "ComparatorNet" "ComparatorNet" "n" "I") ∈ lw_all := lw_g (lw_at lw_m1 22 rfl) rfl
theorem q41 : (Jvm.Cond.soleField "ComparatorNet" "n") ∈ lw_all := lw_g (lw_at lw_m1 23 rfl) rfl
theorem q42 : (Jvm.Cond.lays "ComparatorNet" "ComparatorNet" "count" "I") ∈ lw_all := lw_g (lw_at lw_m1 24 rfl) rfl
theorem q43 : (Jvm.Cond.soleField "ComparatorNet" "count") ∈ lw_all := lw_g (lw_at lw_m1 25 rfl) rfl
theorem q44 : (Jvm.Cond.laysFinal "ComparatorNet" "ComparatorNet" "low" "[B") ∈ lw_all := lw_g (lw_at lw_m1 26 rfl) rfl
theorem q45 : (Jvm.Cond.soleField "ComparatorNet" "low") ∈ lw_all := lw_g (lw_at lw_m1 27 rfl) rfl
theorem q46 : (Jvm.Cond.laysFinal "ComparatorNet" "ComparatorNet" "high" "[B") ∈ lw_all := lw_g (lw_at lw_m1 28 rfl) rfl
theorem q47 : (Jvm.Cond.soleField "ComparatorNet" "high") ∈ lw_all := lw_g (lw_at lw_m1 29 rfl) rfl
theorem q48 : (Jvm.Cond.laysFinal "ComparatorNet" "ComparatorNet" "given" "[I") ∈ lw_all := lw_g (lw_at lw_m1 30 rfl) rfl
theorem q49 : (Jvm.Cond.soleField "ComparatorNet" "given") ∈ lw_all := lw_g (lw_at lw_m1 31 rfl) rfl
theorem q50 : (Jvm.Cond.laysFinal "ComparatorNet" "ComparatorNet" "wire" "[I") ∈ lw_all := lw_g (lw_at lw_m1 32 rfl) rfl
theorem q51 : (Jvm.Cond.soleField "ComparatorNet" "wire") ∈ lw_all := lw_g (lw_at lw_m1 33 rfl) rfl
theorem q52 : (Jvm.Cond.laysFinal "ComparatorNet" "ComparatorNet" "becomes" "[S") ∈ lw_all := lw_g (lw_at lw_m1 34 rfl) rfl
theorem q53 : (Jvm.Cond.soleField "ComparatorNet" "becomes") ∈ lw_all := lw_g (lw_at lw_m1 35 rfl) rfl
theorem q54 : (Jvm.Cond.laysFinal "ComparatorNet" "ComparatorNet" "whole" "[S") ∈ lw_all := lw_g (lw_at lw_m1 36 rfl) rfl
theorem q55 : (Jvm.Cond.soleField "ComparatorNet" "whole") ∈ lw_all := lw_g (lw_at lw_m1 37 rfl) rfl
theorem q56 : (Jvm.Cond.laysFinal "ComparatorNet" "ComparatorNet" "chains" "[I") ∈ lw_all := lw_g (lw_at lw_m1 38 rfl) rfl
theorem q57 : (Jvm.Cond.soleField "ComparatorNet" "chains") ∈ lw_all := lw_g (lw_at lw_m1 39 rfl) rfl
theorem q58 : (Jvm.Cond.laysFinal "ComparatorNet" "ComparatorNet" "round" "[B") ∈ lw_all := lw_g (lw_at lw_m1 40 rfl) rfl
theorem q59 : (Jvm.Cond.soleField "ComparatorNet" "round") ∈ lw_all := lw_g (lw_at lw_m1 41 rfl) rfl
theorem q60 : (Jvm.Cond.laysFinal "ComparatorNet" "ComparatorNet" "product" "[I") ∈ lw_all := lw_g (lw_at lw_m1 42 rfl) rfl
theorem q61 : (Jvm.Cond.soleField "ComparatorNet" "product") ∈ lw_all := lw_g (lw_at lw_m1 43 rfl) rfl
theorem q62 : (Jvm.Cond.superclass "ComparatorNet" "java/lang/Object") ∈ lw_all := lw_g (lw_at lw_m1 44 rfl) rfl
theorem q67 : (Jvm.Cond.instanceMethod ({ cls := "ComparatorNet", name := "add", desc := "(II)I" } : Jvm.MethodName)) ∈ lw_all := lw_g (lw_at lw_m1 49 rfl) rfl
theorem q68 : (Jvm.Cond.selects "ComparatorNet" ({ cls := "ComparatorNet", name := "add", desc := "(II)I" } : Jvm.MethodName) ({ cls := "ComparatorNet", name := "add", desc := "(II)I" } : Jvm.MethodName)) ∈ lw_all := lw_g (lw_at lw_m1 50 rfl) rfl
theorem q69 : (Jvm.Cond.code ({ cls := "ComparatorNet", name := "add", desc := "(II)I" } : Jvm.MethodName) prog_1_method_3_code (3 : Nat) (Option.some Jvm.ClassFile.FieldType.int)) ∈ lw_all := lw_g (lw_at lw_m1 51 rfl) rfl
theorem q70 : (Jvm.Cond.methodLink "ComparatorNet" (43 : Nat) ({ cls := "ComparatorNet", name := "badWire", desc := "(I)Z" } : Jvm.MethodName)) ∈ lw_all := lw_g (lw_at lw_m1 52 rfl) rfl
theorem q71 : (Jvm.Cond.privateMethod ({ cls := "ComparatorNet", name := "badWire", desc := "(I)Z" } : Jvm.MethodName)) ∈ lw_tbl := lw_at lw_m1 53 rfl
theorem q72 : (Jvm.Cond.instanceMethod ({ cls := "ComparatorNet", name := "badWire", desc := "(I)Z" } : Jvm.MethodName)) ∈ lw_all := lw_g (lw_at lw_m1 54 rfl) rfl
theorem q73 : (Jvm.Cond.code ({ cls := "ComparatorNet", name := "badWire", desc := "(I)Z" } : Jvm.MethodName) prog_1_method_2_code (2 : Nat) (Option.some Jvm.ClassFile.FieldType.boolean)) ∈ lw_all := lw_g (lw_at lw_m1 55 rfl) rfl
theorem q75 : (Jvm.Cond.instanceMethod ({ cls := "ComparatorNet", name := "drop", desc := "(I)I" } : Jvm.MethodName)) ∈ lw_all := lw_g (lw_at lw_m1 57 rfl) rfl
theorem q76 : (Jvm.Cond.selects "ComparatorNet" ({ cls := "ComparatorNet", name := "drop", desc := "(I)I" } : Jvm.MethodName) ({ cls := "ComparatorNet", name := "drop", desc := "(I)I" } : Jvm.MethodName)) ∈ lw_all := lw_g (lw_at lw_m1 58 rfl) rfl
theorem q77 : (Jvm.Cond.code ({ cls := "ComparatorNet", name := "drop", desc := "(I)I" } : Jvm.MethodName) prog_1_method_4_code (3 : Nat) (Option.some Jvm.ClassFile.FieldType.int)) ∈ lw_all := lw_g (lw_at lw_m1 59 rfl) rfl
theorem q79 : (Jvm.Cond.instanceMethod ({ cls := "ComparatorNet", name := "swap", desc := "(I)I" } : Jvm.MethodName)) ∈ lw_all := lw_g (lw_at lw_m1 61 rfl) rfl
theorem q80 : (Jvm.Cond.selects "ComparatorNet" ({ cls := "ComparatorNet", name := "swap", desc := "(I)I" } : Jvm.MethodName) ({ cls := "ComparatorNet", name := "swap", desc := "(I)I" } : Jvm.MethodName)) ∈ lw_all := lw_g (lw_at lw_m1 62 rfl) rfl
theorem q81 : (Jvm.Cond.code ({ cls := "ComparatorNet", name := "swap", desc := "(I)I" } : Jvm.MethodName) prog_1_method_5_code (4 : Nat) (Option.some Jvm.ClassFile.FieldType.int)) ∈ lw_all := lw_g (lw_at lw_m1 63 rfl) rfl
theorem q83 : (Jvm.Cond.instanceMethod ({ cls := "ComparatorNet", name := "turn", desc := "()I" } : Jvm.MethodName)) ∈ lw_all := lw_g (lw_at lw_m1 65 rfl) rfl
theorem q84 : (Jvm.Cond.selects "ComparatorNet" ({ cls := "ComparatorNet", name := "turn", desc := "()I" } : Jvm.MethodName) ({ cls := "ComparatorNet", name := "turn", desc := "()I" } : Jvm.MethodName)) ∈ lw_all := lw_g (lw_at lw_m1 66 rfl) rfl
theorem q85 : (Jvm.Cond.code ({ cls := "ComparatorNet", name := "turn", desc := "()I" } : Jvm.MethodName) prog_1_method_6_code (3 : Nat) (Option.some Jvm.ClassFile.FieldType.int)) ∈ lw_all := lw_g (lw_at lw_m1 67 rfl) rfl
theorem q87 : (Jvm.Cond.instanceMethod ({ cls := "ComparatorNet", name := "size", desc := "()I" } : Jvm.MethodName)) ∈ lw_all := lw_g (lw_at lw_m1 69 rfl) rfl
theorem q88 : (Jvm.Cond.selects "ComparatorNet" ({ cls := "ComparatorNet", name := "size", desc := "()I" } : Jvm.MethodName) ({ cls := "ComparatorNet", name := "size", desc := "()I" } : Jvm.MethodName)) ∈ lw_all := lw_g (lw_at lw_m1 70 rfl) rfl
theorem q89 : (Jvm.Cond.code ({ cls := "ComparatorNet", name := "size", desc := "()I" } : Jvm.MethodName) prog_1_method_7_code (1 : Nat) (Option.some Jvm.ClassFile.FieldType.int)) ∈ lw_all := lw_g (lw_at lw_m1 71 rfl) rfl
theorem q91 : (Jvm.Cond.instanceMethod ({ cls := "ComparatorNet", name := "input", desc := "(II)I" } : Jvm.MethodName)) ∈ lw_all := lw_g (lw_at lw_m1 73 rfl) rfl
theorem q92 : (Jvm.Cond.selects "ComparatorNet" ({ cls := "ComparatorNet", name := "input", desc := "(II)I" } : Jvm.MethodName) ({ cls := "ComparatorNet", name := "input", desc := "(II)I" } : Jvm.MethodName)) ∈ lw_all := lw_g (lw_at lw_m1 74 rfl) rfl
theorem q93 : (Jvm.Cond.code ({ cls := "ComparatorNet", name := "input", desc := "(II)I" } : Jvm.MethodName) prog_1_method_8_code (3 : Nat) (Option.some Jvm.ClassFile.FieldType.int)) ∈ lw_all := lw_g (lw_at lw_m1 75 rfl) rfl
theorem q95 : (Jvm.Cond.instanceMethod ({ cls := "ComparatorNet", name := "output", desc := "(I)I" } : Jvm.MethodName)) ∈ lw_all := lw_g (lw_at lw_m1 77 rfl) rfl
theorem q96 : (Jvm.Cond.selects "ComparatorNet" ({ cls := "ComparatorNet", name := "output", desc := "(I)I" } : Jvm.MethodName) ({ cls := "ComparatorNet", name := "output", desc := "(I)I" } : Jvm.MethodName)) ∈ lw_all := lw_g (lw_at lw_m1 78 rfl) rfl
theorem q97 : (Jvm.Cond.code ({ cls := "ComparatorNet", name := "output", desc := "(I)I" } : Jvm.MethodName) prog_1_method_10_code (2 : Nat) (Option.some Jvm.ClassFile.FieldType.int)) ∈ lw_all := lw_g (lw_at lw_m1 79 rfl) rfl
theorem q98 : (Jvm.Cond.methodLink "ComparatorNet" (50 : Nat) ({ cls := "ComparatorNet", name := "pass", desc := "()I" } : Jvm.MethodName)) ∈ lw_all := lw_g (lw_at lw_m1 80 rfl) rfl
theorem q99 : (Jvm.Cond.privateMethod ({ cls := "ComparatorNet", name := "pass", desc := "()I" } : Jvm.MethodName)) ∈ lw_tbl := lw_at lw_m1 81 rfl
theorem q100 : (Jvm.Cond.instanceMethod ({ cls := "ComparatorNet", name := "pass", desc := "()I" } : Jvm.MethodName)) ∈ lw_all := lw_g (lw_at lw_m1 82 rfl) rfl
theorem q101 : (Jvm.Cond.code ({ cls := "ComparatorNet", name := "pass", desc := "()I" } : Jvm.MethodName) prog_1_method_9_code (5 : Nat) (Option.some Jvm.ClassFile.FieldType.int)) ∈ lw_all := lw_g (lw_at lw_m1 83 rfl) rfl
theorem q103 : (Jvm.Cond.instanceMethod ({ cls := "ComparatorNet", name := "exchanges", desc := "()I" } : Jvm.MethodName)) ∈ lw_all := lw_g (lw_at lw_m1 85 rfl) rfl
theorem q104 : (Jvm.Cond.selects "ComparatorNet" ({ cls := "ComparatorNet", name := "exchanges", desc := "()I" } : Jvm.MethodName) ({ cls := "ComparatorNet", name := "exchanges", desc := "()I" } : Jvm.MethodName)) ∈ lw_all := lw_g (lw_at lw_m1 86 rfl) rfl
theorem q105 : (Jvm.Cond.code ({ cls := "ComparatorNet", name := "exchanges", desc := "()I" } : Jvm.MethodName) prog_1_method_11_code (1 : Nat) (Option.some Jvm.ClassFile.FieldType.int)) ∈ lw_all := lw_g (lw_at lw_m1 87 rfl) rfl
theorem q107 : (Jvm.Cond.instanceMethod ({ cls := "ComparatorNet", name := "sorts", desc := "()I" } : Jvm.MethodName)) ∈ lw_all := lw_g (lw_at lw_m1 89 rfl) rfl
theorem q108 : (Jvm.Cond.selects "ComparatorNet" ({ cls := "ComparatorNet", name := "sorts", desc := "()I" } : Jvm.MethodName) ({ cls := "ComparatorNet", name := "sorts", desc := "()I" } : Jvm.MethodName)) ∈ lw_all := lw_g (lw_at lw_m1 90 rfl) rfl
theorem q109 : (Jvm.Cond.code ({ cls := "ComparatorNet", name := "sorts", desc := "()I" } : Jvm.MethodName) prog_1_method_16_code (4 : Nat) (Option.some Jvm.ClassFile.FieldType.int)) ∈ lw_all := lw_g (lw_at lw_m1 91 rfl) rfl
theorem q110 : (Jvm.Cond.methodLink "ComparatorNet" (62 : Nat) ({ cls := "ComparatorNet", name := "findSets", desc := "(II)V" } : Jvm.MethodName)) ∈ lw_all := lw_g (lw_at lw_m1 92 rfl) rfl
theorem q111 : (Jvm.Cond.privateMethod ({ cls := "ComparatorNet", name := "findSets", desc := "(II)V" } : Jvm.MethodName)) ∈ lw_tbl := lw_at lw_m1 93 rfl
theorem q112 : (Jvm.Cond.instanceMethod ({ cls := "ComparatorNet", name := "findSets", desc := "(II)V" } : Jvm.MethodName)) ∈ lw_all := lw_g (lw_at lw_m1 94 rfl) rfl
theorem q113 : (Jvm.Cond.code ({ cls := "ComparatorNet", name := "findSets", desc := "(II)V" } : Jvm.MethodName) prog_1_method_13_code (6 : Nat) (Option.none : Option Jvm.ClassFile.FieldType)) ∈ lw_all := lw_g (lw_at lw_m1 95 rfl) rfl
theorem q114 : (Jvm.Cond.methodLink "ComparatorNet" (54 : Nat) ({ cls := "ComparatorNet", name := "behind", desc := "(II)I" } : Jvm.MethodName)) ∈ lw_all := lw_g (lw_at lw_m1 96 rfl) rfl
theorem q115 : (Jvm.Cond.privateMethod ({ cls := "ComparatorNet", name := "behind", desc := "(II)I" } : Jvm.MethodName)) ∈ lw_tbl := lw_at lw_m1 97 rfl
theorem q116 : (Jvm.Cond.instanceMethod ({ cls := "ComparatorNet", name := "behind", desc := "(II)I" } : Jvm.MethodName)) ∈ lw_all := lw_g (lw_at lw_m1 98 rfl) rfl
theorem q117 : (Jvm.Cond.code ({ cls := "ComparatorNet", name := "behind", desc := "(II)I" } : Jvm.MethodName) prog_1_method_12_code (5 : Nat) (Option.some Jvm.ClassFile.FieldType.int)) ∈ lw_all := lw_g (lw_at lw_m1 99 rfl) rfl
theorem q118 : (Jvm.Cond.methodLink "ComparatorNet" (66 : Nat) ({ cls := "ComparatorNet", name := "inPlace", desc := "(I)Z" } : Jvm.MethodName)) ∈ lw_all := lw_g (lw_at lw_m1 100 rfl) rfl
theorem q119 : (Jvm.Cond.privateMethod ({ cls := "ComparatorNet", name := "inPlace", desc := "(I)Z" } : Jvm.MethodName)) ∈ lw_tbl := lw_at lw_m1 101 rfl
theorem q120 : (Jvm.Cond.instanceMethod ({ cls := "ComparatorNet", name := "inPlace", desc := "(I)Z" } : Jvm.MethodName)) ∈ lw_all := lw_g (lw_at lw_m1 102 rfl) rfl
theorem q121 : (Jvm.Cond.code ({ cls := "ComparatorNet", name := "inPlace", desc := "(I)Z" } : Jvm.MethodName) prog_1_method_15_code (3 : Nat) (Option.some Jvm.ClassFile.FieldType.boolean)) ∈ lw_all := lw_g (lw_at lw_m1 103 rfl) rfl
theorem q122 : (Jvm.Cond.methodLink "ComparatorNet" (58 : Nat) ({ cls := "ComparatorNet", name := "sizeOf", desc := "(I)I" } : Jvm.MethodName)) ∈ lw_all := lw_g (lw_at lw_m1 104 rfl) rfl
theorem q123 : (Jvm.Cond.privateMethod ({ cls := "ComparatorNet", name := "sizeOf", desc := "(I)I" } : Jvm.MethodName)) ∈ lw_tbl := lw_at lw_m1 105 rfl
theorem q124 : (Jvm.Cond.instanceMethod ({ cls := "ComparatorNet", name := "sizeOf", desc := "(I)I" } : Jvm.MethodName)) ∈ lw_all := lw_g (lw_at lw_m1 106 rfl) rfl
theorem q125 : (Jvm.Cond.code ({ cls := "ComparatorNet", name := "sizeOf", desc := "(I)I" } : Jvm.MethodName) prog_1_method_14_code (4 : Nat) (Option.some Jvm.ClassFile.FieldType.int)) ∈ lw_all := lw_g (lw_at lw_m1 107 rfl) rfl
theorem q127 : (Jvm.Cond.instanceMethod ({ cls := "ComparatorNet", name := "sorted", desc := "()I" } : Jvm.MethodName)) ∈ lw_all := lw_g (lw_at lw_m1 109 rfl) rfl
theorem q128 : (Jvm.Cond.selects "ComparatorNet" ({ cls := "ComparatorNet", name := "sorted", desc := "()I" } : Jvm.MethodName) ({ cls := "ComparatorNet", name := "sorted", desc := "()I" } : Jvm.MethodName)) ∈ lw_all := lw_g (lw_at lw_m1 110 rfl) rfl
theorem q129 : (Jvm.Cond.code ({ cls := "ComparatorNet", name := "sorted", desc := "()I" } : Jvm.MethodName) prog_1_method_17_code (4 : Nat) (Option.some Jvm.ClassFile.FieldType.int)) ∈ lw_all := lw_g (lw_at lw_m1 111 rfl) rfl
theorem q131 : (Jvm.Cond.instanceMethod ({ cls := "ComparatorNet", name := "ranks", desc := "(II)I" } : Jvm.MethodName)) ∈ lw_all := lw_g (lw_at lw_m1 113 rfl) rfl
theorem q132 : (Jvm.Cond.selects "ComparatorNet" ({ cls := "ComparatorNet", name := "ranks", desc := "(II)I" } : Jvm.MethodName) ({ cls := "ComparatorNet", name := "ranks", desc := "(II)I" } : Jvm.MethodName)) ∈ lw_all := lw_g (lw_at lw_m1 114 rfl) rfl
theorem q133 : (Jvm.Cond.code ({ cls := "ComparatorNet", name := "ranks", desc := "(II)I" } : Jvm.MethodName) prog_1_method_19_code (11 : Nat) (Option.some Jvm.ClassFile.FieldType.int)) ∈ lw_all := lw_g (lw_at lw_m1 115 rfl) rfl
theorem q134 : (Jvm.Cond.methodLink "ComparatorNet" (69 : Nat) ({ cls := "ComparatorNet", name := "ordersAt", desc := "(I)I" } : Jvm.MethodName)) ∈ lw_all := lw_g (lw_at lw_m1 116 rfl) rfl
theorem q135 : (Jvm.Cond.privateMethod ({ cls := "ComparatorNet", name := "ordersAt", desc := "(I)I" } : Jvm.MethodName)) ∈ lw_tbl := lw_at lw_m1 117 rfl
theorem q136 : (Jvm.Cond.instanceMethod ({ cls := "ComparatorNet", name := "ordersAt", desc := "(I)I" } : Jvm.MethodName)) ∈ lw_all := lw_g (lw_at lw_m1 118 rfl) rfl
theorem q137 : (Jvm.Cond.code ({ cls := "ComparatorNet", name := "ordersAt", desc := "(I)I" } : Jvm.MethodName) prog_1_method_18_code (3 : Nat) (Option.some Jvm.ClassFile.FieldType.int)) ∈ lw_all := lw_g (lw_at lw_m1 119 rfl) rfl
theorem q139 : (Jvm.Cond.instanceMethod ({ cls := "ComparatorNet", name := "works", desc := "(I)I" } : Jvm.MethodName)) ∈ lw_all := lw_g (lw_at lw_m1 121 rfl) rfl
theorem q140 : (Jvm.Cond.selects "ComparatorNet" ({ cls := "ComparatorNet", name := "works", desc := "(I)I" } : Jvm.MethodName) ({ cls := "ComparatorNet", name := "works", desc := "(I)I" } : Jvm.MethodName)) ∈ lw_all := lw_g (lw_at lw_m1 122 rfl) rfl
theorem q141 : (Jvm.Cond.code ({ cls := "ComparatorNet", name := "works", desc := "(I)I" } : Jvm.MethodName) prog_1_method_21_code (2 : Nat) (Option.some Jvm.ClassFile.FieldType.int)) ∈ lw_all := lw_g (lw_at lw_m1 123 rfl) rfl
theorem q142 : (Jvm.Cond.methodLink "ComparatorNet" (72 : Nat) ({ cls := "ComparatorNet", name := "lessOn", desc := "(II)I" } : Jvm.MethodName)) ∈ lw_all := lw_g (lw_at lw_m1 124 rfl) rfl
theorem q143 : (Jvm.Cond.privateMethod ({ cls := "ComparatorNet", name := "lessOn", desc := "(II)I" } : Jvm.MethodName)) ∈ lw_tbl := lw_at lw_m1 125 rfl
theorem q144 : (Jvm.Cond.instanceMethod ({ cls := "ComparatorNet", name := "lessOn", desc := "(II)I" } : Jvm.MethodName)) ∈ lw_all := lw_g (lw_at lw_m1 126 rfl) rfl
theorem q145 : (Jvm.Cond.code ({ cls := "ComparatorNet", name := "lessOn", desc := "(II)I" } : Jvm.MethodName) prog_1_method_20_code (10 : Nat) (Option.some Jvm.ClassFile.FieldType.int)) ∈ lw_all := lw_g (lw_at lw_m1 127 rfl) rfl
theorem q147 : (Jvm.Cond.instanceMethod ({ cls := "ComparatorNet", name := "below", desc := "(II)I" } : Jvm.MethodName)) ∈ lw_all := lw_g (lw_at lw_m1 129 rfl) rfl
theorem q148 : (Jvm.Cond.selects "ComparatorNet" ({ cls := "ComparatorNet", name := "below", desc := "(II)I" } : Jvm.MethodName) ({ cls := "ComparatorNet", name := "below", desc := "(II)I" } : Jvm.MethodName)) ∈ lw_all := lw_g (lw_at lw_m1 130 rfl) rfl
theorem q149 : (Jvm.Cond.code ({ cls := "ComparatorNet", name := "below", desc := "(II)I" } : Jvm.MethodName) prog_1_method_22_code (3 : Nat) (Option.some Jvm.ClassFile.FieldType.int)) ∈ lw_all := lw_g (lw_at lw_m1 131 rfl) rfl
theorem q151 : (Jvm.Cond.instanceMethod ({ cls := "ComparatorNet", name := "idle", desc := "()I" } : Jvm.MethodName)) ∈ lw_all := lw_g (lw_at lw_m1 133 rfl) rfl
theorem q152 : (Jvm.Cond.selects "ComparatorNet" ({ cls := "ComparatorNet", name := "idle", desc := "()I" } : Jvm.MethodName) ({ cls := "ComparatorNet", name := "idle", desc := "()I" } : Jvm.MethodName)) ∈ lw_all := lw_g (lw_at lw_m1 134 rfl) rfl
theorem q153 : (Jvm.Cond.code ({ cls := "ComparatorNet", name := "idle", desc := "()I" } : Jvm.MethodName) prog_1_method_24_code (4 : Nat) (Option.some Jvm.ClassFile.FieldType.int)) ∈ lw_all := lw_g (lw_at lw_m1 135 rfl) rfl
theorem q154 : (Jvm.Cond.methodLink "ComparatorNet" (75 : Nat) ({ cls := "ComparatorNet", name := "sameWithout", desc := "(I)Z" } : Jvm.MethodName)) ∈ lw_all := lw_g (lw_at lw_m1 136 rfl) rfl
theorem q155 : (Jvm.Cond.privateMethod ({ cls := "ComparatorNet", name := "sameWithout", desc := "(I)Z" } : Jvm.MethodName)) ∈ lw_tbl := lw_at lw_m1 137 rfl
theorem q156 : (Jvm.Cond.instanceMethod ({ cls := "ComparatorNet", name := "sameWithout", desc := "(I)Z" } : Jvm.MethodName)) ∈ lw_all := lw_g (lw_at lw_m1 138 rfl) rfl
theorem q157 : (Jvm.Cond.code ({ cls := "ComparatorNet", name := "sameWithout", desc := "(I)Z" } : Jvm.MethodName) prog_1_method_23_code (4 : Nat) (Option.some Jvm.ClassFile.FieldType.boolean)) ∈ lw_all := lw_g (lw_at lw_m1 139 rfl) rfl
theorem q159 : (Jvm.Cond.instanceMethod ({ cls := "ComparatorNet", name := "rounds", desc := "()I" } : Jvm.MethodName)) ∈ lw_all := lw_g (lw_at lw_m1 141 rfl) rfl
theorem q160 : (Jvm.Cond.selects "ComparatorNet" ({ cls := "ComparatorNet", name := "rounds", desc := "()I" } : Jvm.MethodName) ({ cls := "ComparatorNet", name := "rounds", desc := "()I" } : Jvm.MethodName)) ∈ lw_all := lw_g (lw_at lw_m1 142 rfl) rfl
theorem q161 : (Jvm.Cond.code ({ cls := "ComparatorNet", name := "rounds", desc := "()I" } : Jvm.MethodName) prog_1_method_25_code (4 : Nat) (Option.some Jvm.ClassFile.FieldType.int)) ∈ lw_all := lw_g (lw_at lw_m1 143 rfl) rfl
theorem in_X1 : ∀ w ∈ wsX10, w ∈ lw_all := lw_in wsX10 [40, 42, 44, 46, 48, 50, 52, 54, 56, 58, 60] (by decide +kernel) (by decide +kernel)
end
section
set_option maxRecDepth 100000
/-! ComparatorNetModel -/
def RX2 : String := "ComparatorNetModel"
def TX2 : u_T := fun k => match k with
  | 0 => ("ComparatorNetModel", "n", "I", false)
  | 1 => ("ComparatorNetModel", "size", "I", false)
  | 2 => ("ComparatorNetModel", "lows", "[I", false)
  | 3 => ("ComparatorNetModel", "highs", "[I", false)
  | 4 => ("ComparatorNetModel", "inputs", "[I", false)
  | 5 => ("ComparatorNetModel", "order", "[I", false)
  | 6 => ("ComparatorNetModel", "wires", "[I", false)
  | 7 => ("ComparatorNetModel", "others", "[I", false)
  | _ => ("ComparatorNetModel", "last", "[I", false)
def tyX2 : Nat → FieldType := fun k => match k with
  | 0 => .int
  | 1 => .int
  | 2 => .array .int
  | 3 => .array .int
  | 4 => .array .int
  | 5 => .array .int
  | 6 => .array .int
  | 7 => .array .int
  | _ => .array .int
abbrev wsX20 : List Cond := u_ws RX2 TX2 9
theorem nmX2 : ∀ a, a < 9 → ∀ b, b < 9 → a ≠ b → (TX2 a).2.1 ≠ (TX2 b).2.1 := by decide +kernel
theorem tyX2_ok : ∀ k, k < 9 → parseFieldDescriptor (TX2 k).2.2.1 = some (tyX2 k) := by decide +kernel
abbrev cX2_init : ByteArray := prog_3_method_1_code
def yX2_init : MethodName := ⟨RX2, "<init>", "(I)V"⟩
theorem dX2_init_0 : decode cX2_init 0 = .ok (.aload_n 0, 1) := by decide +kernel
theorem dX2_init_1 : decode cX2_init 1 = .ok (.invokespecial 1, 3) := by decide +kernel
theorem dX2_init_4 : decode cX2_init 4 = .ok (.aload_n 0, 1) := by decide +kernel
theorem dX2_init_5 : decode cX2_init 5 = .ok (.bipush 24, 2) := by decide +kernel
theorem dX2_init_7 : decode cX2_init 7 = .ok (.newarray .int, 2) := by decide +kernel
theorem dX2_init_9 : decode cX2_init 9 = .ok (.putfield 7, 3) := by decide +kernel
theorem dX2_init_12 : decode cX2_init 12 = .ok (.aload_n 0, 1) := by decide +kernel
theorem dX2_init_13 : decode cX2_init 13 = .ok (.bipush 24, 2) := by decide +kernel
theorem dX2_init_15 : decode cX2_init 15 = .ok (.newarray .int, 2) := by decide +kernel
theorem dX2_init_17 : decode cX2_init 17 = .ok (.putfield 13, 3) := by decide +kernel
theorem dX2_init_20 : decode cX2_init 20 = .ok (.aload_n 0, 1) := by decide +kernel
theorem dX2_init_21 : decode cX2_init 21 = .ok (.bipush 7, 2) := by decide +kernel
theorem dX2_init_23 : decode cX2_init 23 = .ok (.newarray .int, 2) := by decide +kernel
theorem dX2_init_25 : decode cX2_init 25 = .ok (.putfield 16, 3) := by decide +kernel
theorem dX2_init_28 : decode cX2_init 28 = .ok (.aload_n 0, 1) := by decide +kernel
theorem dX2_init_29 : decode cX2_init 29 = .ok (.bipush 7, 2) := by decide +kernel
theorem dX2_init_31 : decode cX2_init 31 = .ok (.newarray .int, 2) := by decide +kernel
theorem dX2_init_33 : decode cX2_init 33 = .ok (.putfield 19, 3) := by decide +kernel
theorem dX2_init_36 : decode cX2_init 36 = .ok (.aload_n 0, 1) := by decide +kernel
theorem dX2_init_37 : decode cX2_init 37 = .ok (.bipush 7, 2) := by decide +kernel
theorem dX2_init_39 : decode cX2_init 39 = .ok (.newarray .int, 2) := by decide +kernel
theorem dX2_init_41 : decode cX2_init 41 = .ok (.putfield 22, 3) := by decide +kernel
theorem dX2_init_44 : decode cX2_init 44 = .ok (.aload_n 0, 1) := by decide +kernel
theorem dX2_init_45 : decode cX2_init 45 = .ok (.bipush 7, 2) := by decide +kernel
theorem dX2_init_47 : decode cX2_init 47 = .ok (.newarray .int, 2) := by decide +kernel
theorem dX2_init_49 : decode cX2_init 49 = .ok (.putfield 25, 3) := by decide +kernel
theorem dX2_init_52 : decode cX2_init 52 = .ok (.aload_n 0, 1) := by decide +kernel
theorem dX2_init_53 : decode cX2_init 53 = .ok (.bipush 7, 2) := by decide +kernel
theorem dX2_init_55 : decode cX2_init 55 = .ok (.newarray .int, 2) := by decide +kernel
theorem dX2_init_57 : decode cX2_init 57 = .ok (.putfield 28, 3) := by decide +kernel
theorem dX2_init_60 : decode cX2_init 60 = .ok (.aload_n 0, 1) := by decide +kernel
theorem dX2_init_61 : decode cX2_init 61 = .ok (.iload_n 1, 1) := by decide +kernel
theorem dX2_init_62 : decode cX2_init 62 = .ok (.iconst 2, 1) := by decide +kernel
theorem dX2_init_63 : decode cX2_init 63 = .ok (.if_icmp .ge 7, 3) := by decide +kernel
theorem dX2_init_66 : decode cX2_init 66 = .ok (.iconst 2, 1) := by decide +kernel
theorem dX2_init_67 : decode cX2_init 67 = .ok (.goto 15, 3) := by decide +kernel
theorem dX2_init_70 : decode cX2_init 70 = .ok (.iload_n 1, 1) := by decide +kernel
theorem dX2_init_71 : decode cX2_init 71 = .ok (.bipush 7, 2) := by decide +kernel
theorem dX2_init_73 : decode cX2_init 73 = .ok (.if_icmp .le 8, 3) := by decide +kernel
theorem dX2_init_76 : decode cX2_init 76 = .ok (.bipush 7, 2) := by decide +kernel
theorem dX2_init_78 : decode cX2_init 78 = .ok (.goto 4, 3) := by decide +kernel
theorem dX2_init_81 : decode cX2_init 81 = .ok (.iload_n 1, 1) := by decide +kernel
theorem dX2_init_82 : decode cX2_init 82 = .ok (.putfield 31, 3) := by decide +kernel
theorem dX2_init_85 : decode cX2_init 85 = .ok (.return_, 1) := by decide +kernel
abbrev cX2_add : ByteArray := prog_3_method_3_code
def yX2_add : MethodName := ⟨RX2, "add", "(II)I"⟩
theorem dX2_add_0 : decode cX2_add 0 = .ok (.aload_n 0, 1) := by decide +kernel
theorem dX2_add_1 : decode cX2_add 1 = .ok (.iload_n 1, 1) := by decide +kernel
theorem dX2_add_2 : decode cX2_add 2 = .ok (.invokevirtual 35, 3) := by decide +kernel
theorem dX2_add_5 : decode cX2_add 5 = .ok (.ifCond .ne 16, 3) := by decide +kernel
theorem dX2_add_8 : decode cX2_add 8 = .ok (.aload_n 0, 1) := by decide +kernel
theorem dX2_add_9 : decode cX2_add 9 = .ok (.iload_n 2, 1) := by decide +kernel
theorem dX2_add_10 : decode cX2_add 10 = .ok (.invokevirtual 35, 3) := by decide +kernel
theorem dX2_add_13 : decode cX2_add 13 = .ok (.ifCond .ne 8, 3) := by decide +kernel
theorem dX2_add_16 : decode cX2_add 16 = .ok (.iload_n 1, 1) := by decide +kernel
theorem dX2_add_17 : decode cX2_add 17 = .ok (.iload_n 2, 1) := by decide +kernel
theorem dX2_add_18 : decode cX2_add 18 = .ok (.if_icmp .ne 5, 3) := by decide +kernel
theorem dX2_add_21 : decode cX2_add 21 = .ok (.iconst (-1), 1) := by decide +kernel
theorem dX2_add_22 : decode cX2_add 22 = .ok (.ireturn, 1) := by decide +kernel
theorem dX2_add_23 : decode cX2_add 23 = .ok (.aload_n 0, 1) := by decide +kernel
theorem dX2_add_24 : decode cX2_add 24 = .ok (.getfield 39, 3) := by decide +kernel
theorem dX2_add_27 : decode cX2_add 27 = .ok (.bipush 24, 2) := by decide +kernel
theorem dX2_add_29 : decode cX2_add 29 = .ok (.if_icmp .ne 6, 3) := by decide +kernel
theorem dX2_add_32 : decode cX2_add 32 = .ok (.bipush (-2), 2) := by decide +kernel
theorem dX2_add_34 : decode cX2_add 34 = .ok (.ireturn, 1) := by decide +kernel
theorem dX2_add_35 : decode cX2_add 35 = .ok (.aload_n 0, 1) := by decide +kernel
theorem dX2_add_36 : decode cX2_add 36 = .ok (.getfield 7, 3) := by decide +kernel
theorem dX2_add_39 : decode cX2_add 39 = .ok (.aload_n 0, 1) := by decide +kernel
theorem dX2_add_40 : decode cX2_add 40 = .ok (.getfield 39, 3) := by decide +kernel
theorem dX2_add_43 : decode cX2_add 43 = .ok (.iload_n 1, 1) := by decide +kernel
theorem dX2_add_44 : decode cX2_add 44 = .ok (.iastore, 1) := by decide +kernel
theorem dX2_add_45 : decode cX2_add 45 = .ok (.aload_n 0, 1) := by decide +kernel
theorem dX2_add_46 : decode cX2_add 46 = .ok (.getfield 13, 3) := by decide +kernel
theorem dX2_add_49 : decode cX2_add 49 = .ok (.aload_n 0, 1) := by decide +kernel
theorem dX2_add_50 : decode cX2_add 50 = .ok (.getfield 39, 3) := by decide +kernel
theorem dX2_add_53 : decode cX2_add 53 = .ok (.iload_n 2, 1) := by decide +kernel
theorem dX2_add_54 : decode cX2_add 54 = .ok (.iastore, 1) := by decide +kernel
theorem dX2_add_55 : decode cX2_add 55 = .ok (.aload_n 0, 1) := by decide +kernel
theorem dX2_add_56 : decode cX2_add 56 = .ok (.dup, 1) := by decide +kernel
theorem dX2_add_57 : decode cX2_add 57 = .ok (.getfield 39, 3) := by decide +kernel
theorem dX2_add_60 : decode cX2_add 60 = .ok (.iconst 1, 1) := by decide +kernel
theorem dX2_add_61 : decode cX2_add 61 = .ok (.iadd, 1) := by decide +kernel
theorem dX2_add_62 : decode cX2_add 62 = .ok (.putfield 39, 3) := by decide +kernel
theorem dX2_add_65 : decode cX2_add 65 = .ok (.aload_n 0, 1) := by decide +kernel
theorem dX2_add_66 : decode cX2_add 66 = .ok (.getfield 39, 3) := by decide +kernel
theorem dX2_add_69 : decode cX2_add 69 = .ok (.ireturn, 1) := by decide +kernel
abbrev cX2_noWire : ByteArray := prog_3_method_2_code
def yX2_noWire : MethodName := ⟨RX2, "noWire", "(I)Z"⟩
theorem dX2_noWire_0 : decode cX2_noWire 0 = .ok (.iload_n 1, 1) := by decide +kernel
theorem dX2_noWire_1 : decode cX2_noWire 1 = .ok (.ifCond .lt 11, 3) := by decide +kernel
theorem dX2_noWire_4 : decode cX2_noWire 4 = .ok (.iload_n 1, 1) := by decide +kernel
theorem dX2_noWire_5 : decode cX2_noWire 5 = .ok (.aload_n 0, 1) := by decide +kernel
theorem dX2_noWire_6 : decode cX2_noWire 6 = .ok (.getfield 31, 3) := by decide +kernel
theorem dX2_noWire_9 : decode cX2_noWire 9 = .ok (.if_icmp .lt 7, 3) := by decide +kernel
theorem dX2_noWire_12 : decode cX2_noWire 12 = .ok (.iconst 1, 1) := by decide +kernel
theorem dX2_noWire_13 : decode cX2_noWire 13 = .ok (.goto 4, 3) := by decide +kernel
theorem dX2_noWire_16 : decode cX2_noWire 16 = .ok (.iconst 0, 1) := by decide +kernel
theorem dX2_noWire_17 : decode cX2_noWire 17 = .ok (.ireturn, 1) := by decide +kernel
abbrev cX2_drop : ByteArray := prog_3_method_5_code
def yX2_drop : MethodName := ⟨RX2, "drop", "(I)I"⟩
theorem dX2_drop_0 : decode cX2_drop 0 = .ok (.aload_n 0, 1) := by decide +kernel
theorem dX2_drop_1 : decode cX2_drop 1 = .ok (.iload_n 1, 1) := by decide +kernel
theorem dX2_drop_2 : decode cX2_drop 2 = .ok (.invokevirtual 42, 3) := by decide +kernel
theorem dX2_drop_5 : decode cX2_drop 5 = .ok (.ifCond .ne 6, 3) := by decide +kernel
theorem dX2_drop_8 : decode cX2_drop 8 = .ok (.bipush (-4), 2) := by decide +kernel
theorem dX2_drop_10 : decode cX2_drop 10 = .ok (.ireturn, 1) := by decide +kernel
theorem dX2_drop_11 : decode cX2_drop 11 = .ok (.aload_n 0, 1) := by decide +kernel
theorem dX2_drop_12 : decode cX2_drop 12 = .ok (.dup, 1) := by decide +kernel
theorem dX2_drop_13 : decode cX2_drop 13 = .ok (.getfield 39, 3) := by decide +kernel
theorem dX2_drop_16 : decode cX2_drop 16 = .ok (.iconst 1, 1) := by decide +kernel
theorem dX2_drop_17 : decode cX2_drop 17 = .ok (.isub, 1) := by decide +kernel
theorem dX2_drop_18 : decode cX2_drop 18 = .ok (.putfield 39, 3) := by decide +kernel
theorem dX2_drop_21 : decode cX2_drop 21 = .ok (.iload_n 1, 1) := by decide +kernel
theorem dX2_drop_22 : decode cX2_drop 22 = .ok (.istore_n 2, 1) := by decide +kernel
theorem dX2_drop_23 : decode cX2_drop 23 = .ok (.iload_n 2, 1) := by decide +kernel
theorem dX2_drop_24 : decode cX2_drop 24 = .ok (.aload_n 0, 1) := by decide +kernel
theorem dX2_drop_25 : decode cX2_drop 25 = .ok (.getfield 39, 3) := by decide +kernel
theorem dX2_drop_28 : decode cX2_drop 28 = .ok (.if_icmp .ge 37, 3) := by decide +kernel
theorem dX2_drop_31 : decode cX2_drop 31 = .ok (.aload_n 0, 1) := by decide +kernel
theorem dX2_drop_32 : decode cX2_drop 32 = .ok (.getfield 7, 3) := by decide +kernel
theorem dX2_drop_35 : decode cX2_drop 35 = .ok (.iload_n 2, 1) := by decide +kernel
theorem dX2_drop_36 : decode cX2_drop 36 = .ok (.aload_n 0, 1) := by decide +kernel
theorem dX2_drop_37 : decode cX2_drop 37 = .ok (.getfield 7, 3) := by decide +kernel
theorem dX2_drop_40 : decode cX2_drop 40 = .ok (.iload_n 2, 1) := by decide +kernel
theorem dX2_drop_41 : decode cX2_drop 41 = .ok (.iconst 1, 1) := by decide +kernel
theorem dX2_drop_42 : decode cX2_drop 42 = .ok (.iadd, 1) := by decide +kernel
theorem dX2_drop_43 : decode cX2_drop 43 = .ok (.iaload, 1) := by decide +kernel
theorem dX2_drop_44 : decode cX2_drop 44 = .ok (.iastore, 1) := by decide +kernel
theorem dX2_drop_45 : decode cX2_drop 45 = .ok (.aload_n 0, 1) := by decide +kernel
theorem dX2_drop_46 : decode cX2_drop 46 = .ok (.getfield 13, 3) := by decide +kernel
theorem dX2_drop_49 : decode cX2_drop 49 = .ok (.iload_n 2, 1) := by decide +kernel
theorem dX2_drop_50 : decode cX2_drop 50 = .ok (.aload_n 0, 1) := by decide +kernel
theorem dX2_drop_51 : decode cX2_drop 51 = .ok (.getfield 13, 3) := by decide +kernel
theorem dX2_drop_54 : decode cX2_drop 54 = .ok (.iload_n 2, 1) := by decide +kernel
theorem dX2_drop_55 : decode cX2_drop 55 = .ok (.iconst 1, 1) := by decide +kernel
theorem dX2_drop_56 : decode cX2_drop 56 = .ok (.iadd, 1) := by decide +kernel
theorem dX2_drop_57 : decode cX2_drop 57 = .ok (.iaload, 1) := by decide +kernel
theorem dX2_drop_58 : decode cX2_drop 58 = .ok (.iastore, 1) := by decide +kernel
theorem dX2_drop_59 : decode cX2_drop 59 = .ok (.iinc 2 1, 3) := by decide +kernel
theorem dX2_drop_62 : decode cX2_drop 62 = .ok (.goto (-39), 3) := by decide +kernel
theorem dX2_drop_65 : decode cX2_drop 65 = .ok (.aload_n 0, 1) := by decide +kernel
theorem dX2_drop_66 : decode cX2_drop 66 = .ok (.getfield 39, 3) := by decide +kernel
theorem dX2_drop_69 : decode cX2_drop 69 = .ok (.ireturn, 1) := by decide +kernel
abbrev cX2_is : ByteArray := prog_3_method_4_code
def yX2_is : MethodName := ⟨RX2, "is", "(I)Z"⟩
theorem dX2_is_0 : decode cX2_is 0 = .ok (.iload_n 1, 1) := by decide +kernel
theorem dX2_is_1 : decode cX2_is 1 = .ok (.ifCond .lt 15, 3) := by decide +kernel
theorem dX2_is_4 : decode cX2_is 4 = .ok (.iload_n 1, 1) := by decide +kernel
theorem dX2_is_5 : decode cX2_is 5 = .ok (.aload_n 0, 1) := by decide +kernel
theorem dX2_is_6 : decode cX2_is 6 = .ok (.getfield 39, 3) := by decide +kernel
theorem dX2_is_9 : decode cX2_is 9 = .ok (.if_icmp .ge 7, 3) := by decide +kernel
theorem dX2_is_12 : decode cX2_is 12 = .ok (.iconst 1, 1) := by decide +kernel
theorem dX2_is_13 : decode cX2_is 13 = .ok (.goto 4, 3) := by decide +kernel
theorem dX2_is_16 : decode cX2_is 16 = .ok (.iconst 0, 1) := by decide +kernel
theorem dX2_is_17 : decode cX2_is 17 = .ok (.ireturn, 1) := by decide +kernel
abbrev cX2_swap : ByteArray := prog_3_method_6_code
def yX2_swap : MethodName := ⟨RX2, "swap", "(I)I"⟩
theorem dX2_swap_0 : decode cX2_swap 0 = .ok (.iload_n 1, 1) := by decide +kernel
theorem dX2_swap_1 : decode cX2_swap 1 = .ok (.ifCond .lt 13, 3) := by decide +kernel
theorem dX2_swap_4 : decode cX2_swap 4 = .ok (.iload_n 1, 1) := by decide +kernel
theorem dX2_swap_5 : decode cX2_swap 5 = .ok (.aload_n 0, 1) := by decide +kernel
theorem dX2_swap_6 : decode cX2_swap 6 = .ok (.getfield 39, 3) := by decide +kernel
theorem dX2_swap_9 : decode cX2_swap 9 = .ok (.iconst 1, 1) := by decide +kernel
theorem dX2_swap_10 : decode cX2_swap 10 = .ok (.isub, 1) := by decide +kernel
theorem dX2_swap_11 : decode cX2_swap 11 = .ok (.if_icmp .lt 6, 3) := by decide +kernel
theorem dX2_swap_14 : decode cX2_swap 14 = .ok (.bipush (-4), 2) := by decide +kernel
theorem dX2_swap_16 : decode cX2_swap 16 = .ok (.ireturn, 1) := by decide +kernel
theorem dX2_swap_17 : decode cX2_swap 17 = .ok (.aload_n 0, 1) := by decide +kernel
theorem dX2_swap_18 : decode cX2_swap 18 = .ok (.getfield 7, 3) := by decide +kernel
theorem dX2_swap_21 : decode cX2_swap 21 = .ok (.iload_n 1, 1) := by decide +kernel
theorem dX2_swap_22 : decode cX2_swap 22 = .ok (.iaload, 1) := by decide +kernel
theorem dX2_swap_23 : decode cX2_swap 23 = .ok (.istore_n 2, 1) := by decide +kernel
theorem dX2_swap_24 : decode cX2_swap 24 = .ok (.aload_n 0, 1) := by decide +kernel
theorem dX2_swap_25 : decode cX2_swap 25 = .ok (.getfield 13, 3) := by decide +kernel
theorem dX2_swap_28 : decode cX2_swap 28 = .ok (.iload_n 1, 1) := by decide +kernel
theorem dX2_swap_29 : decode cX2_swap 29 = .ok (.iaload, 1) := by decide +kernel
theorem dX2_swap_30 : decode cX2_swap 30 = .ok (.istore_n 3, 1) := by decide +kernel
theorem dX2_swap_31 : decode cX2_swap 31 = .ok (.aload_n 0, 1) := by decide +kernel
theorem dX2_swap_32 : decode cX2_swap 32 = .ok (.getfield 7, 3) := by decide +kernel
theorem dX2_swap_35 : decode cX2_swap 35 = .ok (.iload_n 1, 1) := by decide +kernel
theorem dX2_swap_36 : decode cX2_swap 36 = .ok (.aload_n 0, 1) := by decide +kernel
theorem dX2_swap_37 : decode cX2_swap 37 = .ok (.getfield 7, 3) := by decide +kernel
theorem dX2_swap_40 : decode cX2_swap 40 = .ok (.iload_n 1, 1) := by decide +kernel
theorem dX2_swap_41 : decode cX2_swap 41 = .ok (.iconst 1, 1) := by decide +kernel
theorem dX2_swap_42 : decode cX2_swap 42 = .ok (.iadd, 1) := by decide +kernel
theorem dX2_swap_43 : decode cX2_swap 43 = .ok (.iaload, 1) := by decide +kernel
theorem dX2_swap_44 : decode cX2_swap 44 = .ok (.iastore, 1) := by decide +kernel
theorem dX2_swap_45 : decode cX2_swap 45 = .ok (.aload_n 0, 1) := by decide +kernel
theorem dX2_swap_46 : decode cX2_swap 46 = .ok (.getfield 13, 3) := by decide +kernel
theorem dX2_swap_49 : decode cX2_swap 49 = .ok (.iload_n 1, 1) := by decide +kernel
theorem dX2_swap_50 : decode cX2_swap 50 = .ok (.aload_n 0, 1) := by decide +kernel
theorem dX2_swap_51 : decode cX2_swap 51 = .ok (.getfield 13, 3) := by decide +kernel
theorem dX2_swap_54 : decode cX2_swap 54 = .ok (.iload_n 1, 1) := by decide +kernel
theorem dX2_swap_55 : decode cX2_swap 55 = .ok (.iconst 1, 1) := by decide +kernel
theorem dX2_swap_56 : decode cX2_swap 56 = .ok (.iadd, 1) := by decide +kernel
theorem dX2_swap_57 : decode cX2_swap 57 = .ok (.iaload, 1) := by decide +kernel
theorem dX2_swap_58 : decode cX2_swap 58 = .ok (.iastore, 1) := by decide +kernel
theorem dX2_swap_59 : decode cX2_swap 59 = .ok (.aload_n 0, 1) := by decide +kernel
theorem dX2_swap_60 : decode cX2_swap 60 = .ok (.getfield 7, 3) := by decide +kernel
theorem dX2_swap_63 : decode cX2_swap 63 = .ok (.iload_n 1, 1) := by decide +kernel
theorem dX2_swap_64 : decode cX2_swap 64 = .ok (.iconst 1, 1) := by decide +kernel
theorem dX2_swap_65 : decode cX2_swap 65 = .ok (.iadd, 1) := by decide +kernel
theorem dX2_swap_66 : decode cX2_swap 66 = .ok (.iload_n 2, 1) := by decide +kernel
theorem dX2_swap_67 : decode cX2_swap 67 = .ok (.iastore, 1) := by decide +kernel
theorem dX2_swap_68 : decode cX2_swap 68 = .ok (.aload_n 0, 1) := by decide +kernel
theorem dX2_swap_69 : decode cX2_swap 69 = .ok (.getfield 13, 3) := by decide +kernel
theorem dX2_swap_72 : decode cX2_swap 72 = .ok (.iload_n 1, 1) := by decide +kernel
theorem dX2_swap_73 : decode cX2_swap 73 = .ok (.iconst 1, 1) := by decide +kernel
theorem dX2_swap_74 : decode cX2_swap 74 = .ok (.iadd, 1) := by decide +kernel
theorem dX2_swap_75 : decode cX2_swap 75 = .ok (.iload_n 3, 1) := by decide +kernel
theorem dX2_swap_76 : decode cX2_swap 76 = .ok (.iastore, 1) := by decide +kernel
theorem dX2_swap_77 : decode cX2_swap 77 = .ok (.iconst 0, 1) := by decide +kernel
theorem dX2_swap_78 : decode cX2_swap 78 = .ok (.ireturn, 1) := by decide +kernel
abbrev cX2_turn : ByteArray := prog_3_method_7_code
def yX2_turn : MethodName := ⟨RX2, "turn", "()I"⟩
theorem dX2_turn_0 : decode cX2_turn 0 = .ok (.iconst 0, 1) := by decide +kernel
theorem dX2_turn_1 : decode cX2_turn 1 = .ok (.istore_n 1, 1) := by decide +kernel
theorem dX2_turn_2 : decode cX2_turn 2 = .ok (.iload_n 1, 1) := by decide +kernel
theorem dX2_turn_3 : decode cX2_turn 3 = .ok (.aload_n 0, 1) := by decide +kernel
theorem dX2_turn_4 : decode cX2_turn 4 = .ok (.getfield 39, 3) := by decide +kernel
theorem dX2_turn_7 : decode cX2_turn 7 = .ok (.if_icmp .ge 49, 3) := by decide +kernel
theorem dX2_turn_10 : decode cX2_turn 10 = .ok (.aload_n 0, 1) := by decide +kernel
theorem dX2_turn_11 : decode cX2_turn 11 = .ok (.getfield 7, 3) := by decide +kernel
theorem dX2_turn_14 : decode cX2_turn 14 = .ok (.iload_n 1, 1) := by decide +kernel
theorem dX2_turn_15 : decode cX2_turn 15 = .ok (.iaload, 1) := by decide +kernel
theorem dX2_turn_16 : decode cX2_turn 16 = .ok (.istore_n 2, 1) := by decide +kernel
theorem dX2_turn_17 : decode cX2_turn 17 = .ok (.aload_n 0, 1) := by decide +kernel
theorem dX2_turn_18 : decode cX2_turn 18 = .ok (.getfield 7, 3) := by decide +kernel
theorem dX2_turn_21 : decode cX2_turn 21 = .ok (.iload_n 1, 1) := by decide +kernel
theorem dX2_turn_22 : decode cX2_turn 22 = .ok (.aload_n 0, 1) := by decide +kernel
theorem dX2_turn_23 : decode cX2_turn 23 = .ok (.getfield 31, 3) := by decide +kernel
theorem dX2_turn_26 : decode cX2_turn 26 = .ok (.iconst 1, 1) := by decide +kernel
theorem dX2_turn_27 : decode cX2_turn 27 = .ok (.isub, 1) := by decide +kernel
theorem dX2_turn_28 : decode cX2_turn 28 = .ok (.aload_n 0, 1) := by decide +kernel
theorem dX2_turn_29 : decode cX2_turn 29 = .ok (.getfield 13, 3) := by decide +kernel
theorem dX2_turn_32 : decode cX2_turn 32 = .ok (.iload_n 1, 1) := by decide +kernel
theorem dX2_turn_33 : decode cX2_turn 33 = .ok (.iaload, 1) := by decide +kernel
theorem dX2_turn_34 : decode cX2_turn 34 = .ok (.isub, 1) := by decide +kernel
theorem dX2_turn_35 : decode cX2_turn 35 = .ok (.iastore, 1) := by decide +kernel
theorem dX2_turn_36 : decode cX2_turn 36 = .ok (.aload_n 0, 1) := by decide +kernel
theorem dX2_turn_37 : decode cX2_turn 37 = .ok (.getfield 13, 3) := by decide +kernel
theorem dX2_turn_40 : decode cX2_turn 40 = .ok (.iload_n 1, 1) := by decide +kernel
theorem dX2_turn_41 : decode cX2_turn 41 = .ok (.aload_n 0, 1) := by decide +kernel
theorem dX2_turn_42 : decode cX2_turn 42 = .ok (.getfield 31, 3) := by decide +kernel
theorem dX2_turn_45 : decode cX2_turn 45 = .ok (.iconst 1, 1) := by decide +kernel
theorem dX2_turn_46 : decode cX2_turn 46 = .ok (.isub, 1) := by decide +kernel
theorem dX2_turn_47 : decode cX2_turn 47 = .ok (.iload_n 2, 1) := by decide +kernel
theorem dX2_turn_48 : decode cX2_turn 48 = .ok (.isub, 1) := by decide +kernel
theorem dX2_turn_49 : decode cX2_turn 49 = .ok (.iastore, 1) := by decide +kernel
theorem dX2_turn_50 : decode cX2_turn 50 = .ok (.iinc 1 1, 3) := by decide +kernel
theorem dX2_turn_53 : decode cX2_turn 53 = .ok (.goto (-51), 3) := by decide +kernel
theorem dX2_turn_56 : decode cX2_turn 56 = .ok (.aload_n 0, 1) := by decide +kernel
theorem dX2_turn_57 : decode cX2_turn 57 = .ok (.getfield 39, 3) := by decide +kernel
theorem dX2_turn_60 : decode cX2_turn 60 = .ok (.ireturn, 1) := by decide +kernel
abbrev cX2_size : ByteArray := prog_3_method_8_code
def yX2_size : MethodName := ⟨RX2, "size", "()I"⟩
theorem dX2_size_0 : decode cX2_size 0 = .ok (.aload_n 0, 1) := by decide +kernel
theorem dX2_size_1 : decode cX2_size 1 = .ok (.getfield 39, 3) := by decide +kernel
theorem dX2_size_4 : decode cX2_size 4 = .ok (.ireturn, 1) := by decide +kernel
abbrev cX2_input : ByteArray := prog_3_method_9_code
def yX2_input : MethodName := ⟨RX2, "input", "(II)I"⟩
theorem dX2_input_0 : decode cX2_input 0 = .ok (.aload_n 0, 1) := by decide +kernel
theorem dX2_input_1 : decode cX2_input 1 = .ok (.iload_n 1, 1) := by decide +kernel
theorem dX2_input_2 : decode cX2_input 2 = .ok (.invokevirtual 35, 3) := by decide +kernel
theorem dX2_input_5 : decode cX2_input 5 = .ok (.ifCond .eq 5, 3) := by decide +kernel
theorem dX2_input_8 : decode cX2_input 8 = .ok (.iconst (-1), 1) := by decide +kernel
theorem dX2_input_9 : decode cX2_input 9 = .ok (.ireturn, 1) := by decide +kernel
theorem dX2_input_10 : decode cX2_input 10 = .ok (.aload_n 0, 1) := by decide +kernel
theorem dX2_input_11 : decode cX2_input 11 = .ok (.getfield 16, 3) := by decide +kernel
theorem dX2_input_14 : decode cX2_input 14 = .ok (.iload_n 1, 1) := by decide +kernel
theorem dX2_input_15 : decode cX2_input 15 = .ok (.iload_n 2, 1) := by decide +kernel
theorem dX2_input_16 : decode cX2_input 16 = .ok (.iastore, 1) := by decide +kernel
theorem dX2_input_17 : decode cX2_input 17 = .ok (.iconst 0, 1) := by decide +kernel
theorem dX2_input_18 : decode cX2_input 18 = .ok (.ireturn, 1) := by decide +kernel
abbrev cX2_output : ByteArray := prog_3_method_11_code
def yX2_output : MethodName := ⟨RX2, "output", "(I)I"⟩
theorem dX2_output_0 : decode cX2_output 0 = .ok (.aload_n 0, 1) := by decide +kernel
theorem dX2_output_1 : decode cX2_output 1 = .ok (.iload_n 1, 1) := by decide +kernel
theorem dX2_output_2 : decode cX2_output 2 = .ok (.invokevirtual 35, 3) := by decide +kernel
theorem dX2_output_5 : decode cX2_output 5 = .ok (.ifCond .eq 5, 3) := by decide +kernel
theorem dX2_output_8 : decode cX2_output 8 = .ok (.iconst 0, 1) := by decide +kernel
theorem dX2_output_9 : decode cX2_output 9 = .ok (.ireturn, 1) := by decide +kernel
theorem dX2_output_10 : decode cX2_output 10 = .ok (.iconst 0, 1) := by decide +kernel
theorem dX2_output_11 : decode cX2_output 11 = .ok (.istore_n 2, 1) := by decide +kernel
theorem dX2_output_12 : decode cX2_output 12 = .ok (.iload_n 2, 1) := by decide +kernel
theorem dX2_output_13 : decode cX2_output 13 = .ok (.aload_n 0, 1) := by decide +kernel
theorem dX2_output_14 : decode cX2_output 14 = .ok (.getfield 31, 3) := by decide +kernel
theorem dX2_output_17 : decode cX2_output 17 = .ok (.if_icmp .ge 21, 3) := by decide +kernel
theorem dX2_output_20 : decode cX2_output 20 = .ok (.aload_n 0, 1) := by decide +kernel
theorem dX2_output_21 : decode cX2_output 21 = .ok (.getfield 22, 3) := by decide +kernel
theorem dX2_output_24 : decode cX2_output 24 = .ok (.iload_n 2, 1) := by decide +kernel
theorem dX2_output_25 : decode cX2_output 25 = .ok (.aload_n 0, 1) := by decide +kernel
theorem dX2_output_26 : decode cX2_output 26 = .ok (.getfield 16, 3) := by decide +kernel
theorem dX2_output_29 : decode cX2_output 29 = .ok (.iload_n 2, 1) := by decide +kernel
theorem dX2_output_30 : decode cX2_output 30 = .ok (.iaload, 1) := by decide +kernel
theorem dX2_output_31 : decode cX2_output 31 = .ok (.iastore, 1) := by decide +kernel
theorem dX2_output_32 : decode cX2_output 32 = .ok (.iinc 2 1, 3) := by decide +kernel
theorem dX2_output_35 : decode cX2_output 35 = .ok (.goto (-23), 3) := by decide +kernel
theorem dX2_output_38 : decode cX2_output 38 = .ok (.iconst 0, 1) := by decide +kernel
theorem dX2_output_39 : decode cX2_output 39 = .ok (.istore_n 2, 1) := by decide +kernel
theorem dX2_output_40 : decode cX2_output 40 = .ok (.iload_n 2, 1) := by decide +kernel
theorem dX2_output_41 : decode cX2_output 41 = .ok (.aload_n 0, 1) := by decide +kernel
theorem dX2_output_42 : decode cX2_output 42 = .ok (.getfield 39, 3) := by decide +kernel
theorem dX2_output_45 : decode cX2_output 45 = .ok (.if_icmp .ge 15, 3) := by decide +kernel
theorem dX2_output_48 : decode cX2_output 48 = .ok (.aload_n 0, 1) := by decide +kernel
theorem dX2_output_49 : decode cX2_output 49 = .ok (.iload_n 2, 1) := by decide +kernel
theorem dX2_output_50 : decode cX2_output 50 = .ok (.invokevirtual 45, 3) := by decide +kernel
theorem dX2_output_53 : decode cX2_output 53 = .ok (.pop, 1) := by decide +kernel
theorem dX2_output_54 : decode cX2_output 54 = .ok (.iinc 2 1, 3) := by decide +kernel
theorem dX2_output_57 : decode cX2_output 57 = .ok (.goto (-17), 3) := by decide +kernel
theorem dX2_output_60 : decode cX2_output 60 = .ok (.aload_n 0, 1) := by decide +kernel
theorem dX2_output_61 : decode cX2_output 61 = .ok (.getfield 22, 3) := by decide +kernel
theorem dX2_output_64 : decode cX2_output 64 = .ok (.iload_n 1, 1) := by decide +kernel
theorem dX2_output_65 : decode cX2_output 65 = .ok (.iaload, 1) := by decide +kernel
theorem dX2_output_66 : decode cX2_output 66 = .ok (.ireturn, 1) := by decide +kernel
abbrev cX2_compare : ByteArray := prog_3_method_10_code
def yX2_compare : MethodName := ⟨RX2, "compare", "(I)Z"⟩
theorem dX2_compare_0 : decode cX2_compare 0 = .ok (.aload_n 0, 1) := by decide +kernel
theorem dX2_compare_1 : decode cX2_compare 1 = .ok (.getfield 7, 3) := by decide +kernel
theorem dX2_compare_4 : decode cX2_compare 4 = .ok (.iload_n 1, 1) := by decide +kernel
theorem dX2_compare_5 : decode cX2_compare 5 = .ok (.iaload, 1) := by decide +kernel
theorem dX2_compare_6 : decode cX2_compare 6 = .ok (.istore_n 2, 1) := by decide +kernel
theorem dX2_compare_7 : decode cX2_compare 7 = .ok (.aload_n 0, 1) := by decide +kernel
theorem dX2_compare_8 : decode cX2_compare 8 = .ok (.getfield 13, 3) := by decide +kernel
theorem dX2_compare_11 : decode cX2_compare 11 = .ok (.iload_n 1, 1) := by decide +kernel
theorem dX2_compare_12 : decode cX2_compare 12 = .ok (.iaload, 1) := by decide +kernel
theorem dX2_compare_13 : decode cX2_compare 13 = .ok (.istore_n 3, 1) := by decide +kernel
theorem dX2_compare_14 : decode cX2_compare 14 = .ok (.aload_n 0, 1) := by decide +kernel
theorem dX2_compare_15 : decode cX2_compare 15 = .ok (.getfield 22, 3) := by decide +kernel
theorem dX2_compare_18 : decode cX2_compare 18 = .ok (.iload_n 2, 1) := by decide +kernel
theorem dX2_compare_19 : decode cX2_compare 19 = .ok (.iaload, 1) := by decide +kernel
theorem dX2_compare_20 : decode cX2_compare 20 = .ok (.aload_n 0, 1) := by decide +kernel
theorem dX2_compare_21 : decode cX2_compare 21 = .ok (.getfield 22, 3) := by decide +kernel
theorem dX2_compare_24 : decode cX2_compare 24 = .ok (.iload_n 3, 1) := by decide +kernel
theorem dX2_compare_25 : decode cX2_compare 25 = .ok (.iaload, 1) := by decide +kernel
theorem dX2_compare_26 : decode cX2_compare 26 = .ok (.if_icmp .gt 5, 3) := by decide +kernel
theorem dX2_compare_29 : decode cX2_compare 29 = .ok (.iconst 0, 1) := by decide +kernel
theorem dX2_compare_30 : decode cX2_compare 30 = .ok (.ireturn, 1) := by decide +kernel
theorem dX2_compare_31 : decode cX2_compare 31 = .ok (.aload_n 0, 1) := by decide +kernel
theorem dX2_compare_32 : decode cX2_compare 32 = .ok (.getfield 22, 3) := by decide +kernel
theorem dX2_compare_35 : decode cX2_compare 35 = .ok (.iload_n 2, 1) := by decide +kernel
theorem dX2_compare_36 : decode cX2_compare 36 = .ok (.iaload, 1) := by decide +kernel
theorem dX2_compare_37 : decode cX2_compare 37 = .ok (.istore 4, 2) := by decide +kernel
theorem dX2_compare_39 : decode cX2_compare 39 = .ok (.aload_n 0, 1) := by decide +kernel
theorem dX2_compare_40 : decode cX2_compare 40 = .ok (.getfield 22, 3) := by decide +kernel
theorem dX2_compare_43 : decode cX2_compare 43 = .ok (.iload_n 2, 1) := by decide +kernel
theorem dX2_compare_44 : decode cX2_compare 44 = .ok (.aload_n 0, 1) := by decide +kernel
theorem dX2_compare_45 : decode cX2_compare 45 = .ok (.getfield 22, 3) := by decide +kernel
theorem dX2_compare_48 : decode cX2_compare 48 = .ok (.iload_n 3, 1) := by decide +kernel
theorem dX2_compare_49 : decode cX2_compare 49 = .ok (.iaload, 1) := by decide +kernel
theorem dX2_compare_50 : decode cX2_compare 50 = .ok (.iastore, 1) := by decide +kernel
theorem dX2_compare_51 : decode cX2_compare 51 = .ok (.aload_n 0, 1) := by decide +kernel
theorem dX2_compare_52 : decode cX2_compare 52 = .ok (.getfield 22, 3) := by decide +kernel
theorem dX2_compare_55 : decode cX2_compare 55 = .ok (.iload_n 3, 1) := by decide +kernel
theorem dX2_compare_56 : decode cX2_compare 56 = .ok (.iload 4, 2) := by decide +kernel
theorem dX2_compare_58 : decode cX2_compare 58 = .ok (.iastore, 1) := by decide +kernel
theorem dX2_compare_59 : decode cX2_compare 59 = .ok (.iconst 1, 1) := by decide +kernel
theorem dX2_compare_60 : decode cX2_compare 60 = .ok (.ireturn, 1) := by decide +kernel
abbrev cX2_exchanges : ByteArray := prog_3_method_12_code
def yX2_exchanges : MethodName := ⟨RX2, "exchanges", "()I"⟩
theorem dX2_exchanges_0 : decode cX2_exchanges 0 = .ok (.iconst 0, 1) := by decide +kernel
theorem dX2_exchanges_1 : decode cX2_exchanges 1 = .ok (.istore_n 1, 1) := by decide +kernel
theorem dX2_exchanges_2 : decode cX2_exchanges 2 = .ok (.iload_n 1, 1) := by decide +kernel
theorem dX2_exchanges_3 : decode cX2_exchanges 3 = .ok (.aload_n 0, 1) := by decide +kernel
theorem dX2_exchanges_4 : decode cX2_exchanges 4 = .ok (.getfield 31, 3) := by decide +kernel
theorem dX2_exchanges_7 : decode cX2_exchanges 7 = .ok (.if_icmp .ge 21, 3) := by decide +kernel
theorem dX2_exchanges_10 : decode cX2_exchanges 10 = .ok (.aload_n 0, 1) := by decide +kernel
theorem dX2_exchanges_11 : decode cX2_exchanges 11 = .ok (.getfield 22, 3) := by decide +kernel
theorem dX2_exchanges_14 : decode cX2_exchanges 14 = .ok (.iload_n 1, 1) := by decide +kernel
theorem dX2_exchanges_15 : decode cX2_exchanges 15 = .ok (.aload_n 0, 1) := by decide +kernel
theorem dX2_exchanges_16 : decode cX2_exchanges 16 = .ok (.getfield 16, 3) := by decide +kernel
theorem dX2_exchanges_19 : decode cX2_exchanges 19 = .ok (.iload_n 1, 1) := by decide +kernel
theorem dX2_exchanges_20 : decode cX2_exchanges 20 = .ok (.iaload, 1) := by decide +kernel
theorem dX2_exchanges_21 : decode cX2_exchanges 21 = .ok (.iastore, 1) := by decide +kernel
theorem dX2_exchanges_22 : decode cX2_exchanges 22 = .ok (.iinc 1 1, 3) := by decide +kernel
theorem dX2_exchanges_25 : decode cX2_exchanges 25 = .ok (.goto (-23), 3) := by decide +kernel
theorem dX2_exchanges_28 : decode cX2_exchanges 28 = .ok (.iconst 0, 1) := by decide +kernel
theorem dX2_exchanges_29 : decode cX2_exchanges 29 = .ok (.istore_n 1, 1) := by decide +kernel
theorem dX2_exchanges_30 : decode cX2_exchanges 30 = .ok (.iconst 0, 1) := by decide +kernel
theorem dX2_exchanges_31 : decode cX2_exchanges 31 = .ok (.istore_n 2, 1) := by decide +kernel
theorem dX2_exchanges_32 : decode cX2_exchanges 32 = .ok (.iload_n 2, 1) := by decide +kernel
theorem dX2_exchanges_33 : decode cX2_exchanges 33 = .ok (.aload_n 0, 1) := by decide +kernel
theorem dX2_exchanges_34 : decode cX2_exchanges 34 = .ok (.getfield 39, 3) := by decide +kernel
theorem dX2_exchanges_37 : decode cX2_exchanges 37 = .ok (.if_icmp .ge 22, 3) := by decide +kernel
theorem dX2_exchanges_40 : decode cX2_exchanges 40 = .ok (.aload_n 0, 1) := by decide +kernel
theorem dX2_exchanges_41 : decode cX2_exchanges 41 = .ok (.iload_n 2, 1) := by decide +kernel
theorem dX2_exchanges_42 : decode cX2_exchanges 42 = .ok (.invokevirtual 45, 3) := by decide +kernel
theorem dX2_exchanges_45 : decode cX2_exchanges 45 = .ok (.istore_n 3, 1) := by decide +kernel
theorem dX2_exchanges_46 : decode cX2_exchanges 46 = .ok (.iload_n 3, 1) := by decide +kernel
theorem dX2_exchanges_47 : decode cX2_exchanges 47 = .ok (.ifCond .eq 6, 3) := by decide +kernel
theorem dX2_exchanges_50 : decode cX2_exchanges 50 = .ok (.iinc 1 1, 3) := by decide +kernel
theorem dX2_exchanges_53 : decode cX2_exchanges 53 = .ok (.iinc 2 1, 3) := by decide +kernel
theorem dX2_exchanges_56 : decode cX2_exchanges 56 = .ok (.goto (-24), 3) := by decide +kernel
theorem dX2_exchanges_59 : decode cX2_exchanges 59 = .ok (.iload_n 1, 1) := by decide +kernel
theorem dX2_exchanges_60 : decode cX2_exchanges 60 = .ok (.ireturn, 1) := by decide +kernel
abbrev cX2_sorts : ByteArray := prog_3_method_17_code
def yX2_sorts : MethodName := ⟨RX2, "sorts", "()I"⟩
theorem dX2_sorts_0 : decode cX2_sorts 0 = .ok (.aload_n 0, 1) := by decide +kernel
theorem dX2_sorts_1 : decode cX2_sorts 1 = .ok (.invokevirtual 48, 3) := by decide +kernel
theorem dX2_sorts_4 : decode cX2_sorts 4 = .ok (.istore_n 1, 1) := by decide +kernel
theorem dX2_sorts_5 : decode cX2_sorts 5 = .ok (.aload_n 0, 1) := by decide +kernel
theorem dX2_sorts_6 : decode cX2_sorts 6 = .ok (.invokevirtual 52, 3) := by decide +kernel
theorem dX2_sorts_9 : decode cX2_sorts 9 = .ok (.iload_n 1, 1) := by decide +kernel
theorem dX2_sorts_10 : decode cX2_sorts 10 = .ok (.if_icmp .ne 7, 3) := by decide +kernel
theorem dX2_sorts_13 : decode cX2_sorts 13 = .ok (.iconst 1, 1) := by decide +kernel
theorem dX2_sorts_14 : decode cX2_sorts 14 = .ok (.goto 4, 3) := by decide +kernel
theorem dX2_sorts_17 : decode cX2_sorts 17 = .ok (.iconst 0, 1) := by decide +kernel
theorem dX2_sorts_18 : decode cX2_sorts 18 = .ok (.ireturn, 1) := by decide +kernel
end
section
set_option maxRecDepth 100000
abbrev cX2_all : ByteArray := prog_3_method_16_code
def yX2_all : MethodName := ⟨RX2, "all", "()I"⟩
theorem dX2_all_0 : decode cX2_all 0 = .ok (.iconst 1, 1) := by decide +kernel
theorem dX2_all_1 : decode cX2_all 1 = .ok (.istore_n 1, 1) := by decide +kernel
theorem dX2_all_2 : decode cX2_all 2 = .ok (.iconst 2, 1) := by decide +kernel
theorem dX2_all_3 : decode cX2_all 3 = .ok (.istore_n 2, 1) := by decide +kernel
theorem dX2_all_4 : decode cX2_all 4 = .ok (.iload_n 2, 1) := by decide +kernel
theorem dX2_all_5 : decode cX2_all 5 = .ok (.aload_n 0, 1) := by decide +kernel
theorem dX2_all_6 : decode cX2_all 6 = .ok (.getfield 31, 3) := by decide +kernel
theorem dX2_all_9 : decode cX2_all 9 = .ok (.if_icmp .gt 13, 3) := by decide +kernel
theorem dX2_all_12 : decode cX2_all 12 = .ok (.iload_n 1, 1) := by decide +kernel
theorem dX2_all_13 : decode cX2_all 13 = .ok (.iload_n 2, 1) := by decide +kernel
theorem dX2_all_14 : decode cX2_all 14 = .ok (.imul, 1) := by decide +kernel
theorem dX2_all_15 : decode cX2_all 15 = .ok (.istore_n 1, 1) := by decide +kernel
theorem dX2_all_16 : decode cX2_all 16 = .ok (.iinc 2 1, 3) := by decide +kernel
theorem dX2_all_19 : decode cX2_all 19 = .ok (.goto (-15), 3) := by decide +kernel
theorem dX2_all_22 : decode cX2_all 22 = .ok (.iload_n 1, 1) := by decide +kernel
theorem dX2_all_23 : decode cX2_all 23 = .ok (.ireturn, 1) := by decide +kernel
abbrev cX2_sorted : ByteArray := prog_3_method_19_code
def yX2_sorted : MethodName := ⟨RX2, "sorted", "()I"⟩
theorem dX2_sorted_0 : decode cX2_sorted 0 = .ok (.aload_n 0, 1) := by decide +kernel
theorem dX2_sorted_1 : decode cX2_sorted 1 = .ok (.invokevirtual 55, 3) := by decide +kernel
theorem dX2_sorted_4 : decode cX2_sorted 4 = .ok (.iconst 0, 1) := by decide +kernel
theorem dX2_sorted_5 : decode cX2_sorted 5 = .ok (.istore_n 1, 1) := by decide +kernel
theorem dX2_sorted_6 : decode cX2_sorted 6 = .ok (.iconst 1, 1) := by decide +kernel
theorem dX2_sorted_7 : decode cX2_sorted 7 = .ok (.istore_n 2, 1) := by decide +kernel
theorem dX2_sorted_8 : decode cX2_sorted 8 = .ok (.iload_n 2, 1) := by decide +kernel
theorem dX2_sorted_9 : decode cX2_sorted 9 = .ok (.ifCond .eq 26, 3) := by decide +kernel
theorem dX2_sorted_12 : decode cX2_sorted 12 = .ok (.aload_n 0, 1) := by decide +kernel
theorem dX2_sorted_13 : decode cX2_sorted 13 = .ok (.iconst (-1), 1) := by decide +kernel
theorem dX2_sorted_14 : decode cX2_sorted 14 = .ok (.invokevirtual 58, 3) := by decide +kernel
theorem dX2_sorted_17 : decode cX2_sorted 17 = .ok (.aload_n 0, 1) := by decide +kernel
theorem dX2_sorted_18 : decode cX2_sorted 18 = .ok (.invokevirtual 62, 3) := by decide +kernel
theorem dX2_sorted_21 : decode cX2_sorted 21 = .ok (.ifCond .eq 6, 3) := by decide +kernel
theorem dX2_sorted_24 : decode cX2_sorted 24 = .ok (.iinc 1 1, 3) := by decide +kernel
theorem dX2_sorted_27 : decode cX2_sorted 27 = .ok (.aload_n 0, 1) := by decide +kernel
theorem dX2_sorted_28 : decode cX2_sorted 28 = .ok (.invokevirtual 66, 3) := by decide +kernel
theorem dX2_sorted_31 : decode cX2_sorted 31 = .ok (.istore_n 2, 1) := by decide +kernel
theorem dX2_sorted_32 : decode cX2_sorted 32 = .ok (.goto (-24), 3) := by decide +kernel
theorem dX2_sorted_35 : decode cX2_sorted 35 = .ok (.iload_n 1, 1) := by decide +kernel
theorem dX2_sorted_36 : decode cX2_sorted 36 = .ok (.ireturn, 1) := by decide +kernel
abbrev cX2_firstOrder : ByteArray := prog_3_method_13_code
def yX2_firstOrder : MethodName := ⟨RX2, "firstOrder", "()V"⟩
theorem dX2_firstOrder_0 : decode cX2_firstOrder 0 = .ok (.iconst 0, 1) := by decide +kernel
theorem dX2_firstOrder_1 : decode cX2_firstOrder 1 = .ok (.istore_n 1, 1) := by decide +kernel
theorem dX2_firstOrder_2 : decode cX2_firstOrder 2 = .ok (.iload_n 1, 1) := by decide +kernel
theorem dX2_firstOrder_3 : decode cX2_firstOrder 3 = .ok (.aload_n 0, 1) := by decide +kernel
theorem dX2_firstOrder_4 : decode cX2_firstOrder 4 = .ok (.getfield 31, 3) := by decide +kernel
theorem dX2_firstOrder_7 : decode cX2_firstOrder 7 = .ok (.if_icmp .ge 18, 3) := by decide +kernel
theorem dX2_firstOrder_10 : decode cX2_firstOrder 10 = .ok (.aload_n 0, 1) := by decide +kernel
theorem dX2_firstOrder_11 : decode cX2_firstOrder 11 = .ok (.getfield 19, 3) := by decide +kernel
theorem dX2_firstOrder_14 : decode cX2_firstOrder 14 = .ok (.iload_n 1, 1) := by decide +kernel
theorem dX2_firstOrder_15 : decode cX2_firstOrder 15 = .ok (.iload_n 1, 1) := by decide +kernel
theorem dX2_firstOrder_16 : decode cX2_firstOrder 16 = .ok (.iconst 1, 1) := by decide +kernel
theorem dX2_firstOrder_17 : decode cX2_firstOrder 17 = .ok (.iadd, 1) := by decide +kernel
theorem dX2_firstOrder_18 : decode cX2_firstOrder 18 = .ok (.iastore, 1) := by decide +kernel
theorem dX2_firstOrder_19 : decode cX2_firstOrder 19 = .ok (.iinc 1 1, 3) := by decide +kernel
theorem dX2_firstOrder_22 : decode cX2_firstOrder 22 = .ok (.goto (-20), 3) := by decide +kernel
theorem dX2_firstOrder_25 : decode cX2_firstOrder 25 = .ok (.return_, 1) := by decide +kernel
abbrev cX2_pass : ByteArray := prog_3_method_15_code
def yX2_pass : MethodName := ⟨RX2, "pass", "(I)V"⟩
theorem dX2_pass_0 : decode cX2_pass 0 = .ok (.iconst 0, 1) := by decide +kernel
theorem dX2_pass_1 : decode cX2_pass 1 = .ok (.istore_n 2, 1) := by decide +kernel
theorem dX2_pass_2 : decode cX2_pass 2 = .ok (.iload_n 2, 1) := by decide +kernel
theorem dX2_pass_3 : decode cX2_pass 3 = .ok (.aload_n 0, 1) := by decide +kernel
theorem dX2_pass_4 : decode cX2_pass 4 = .ok (.getfield 31, 3) := by decide +kernel
theorem dX2_pass_7 : decode cX2_pass 7 = .ok (.if_icmp .ge 21, 3) := by decide +kernel
theorem dX2_pass_10 : decode cX2_pass 10 = .ok (.aload_n 0, 1) := by decide +kernel
theorem dX2_pass_11 : decode cX2_pass 11 = .ok (.getfield 22, 3) := by decide +kernel
theorem dX2_pass_14 : decode cX2_pass 14 = .ok (.iload_n 2, 1) := by decide +kernel
theorem dX2_pass_15 : decode cX2_pass 15 = .ok (.aload_n 0, 1) := by decide +kernel
theorem dX2_pass_16 : decode cX2_pass 16 = .ok (.getfield 19, 3) := by decide +kernel
theorem dX2_pass_19 : decode cX2_pass 19 = .ok (.iload_n 2, 1) := by decide +kernel
theorem dX2_pass_20 : decode cX2_pass 20 = .ok (.iaload, 1) := by decide +kernel
theorem dX2_pass_21 : decode cX2_pass 21 = .ok (.iastore, 1) := by decide +kernel
theorem dX2_pass_22 : decode cX2_pass 22 = .ok (.iinc 2 1, 3) := by decide +kernel
theorem dX2_pass_25 : decode cX2_pass 25 = .ok (.goto (-23), 3) := by decide +kernel
theorem dX2_pass_28 : decode cX2_pass 28 = .ok (.iconst 0, 1) := by decide +kernel
theorem dX2_pass_29 : decode cX2_pass 29 = .ok (.istore_n 2, 1) := by decide +kernel
theorem dX2_pass_30 : decode cX2_pass 30 = .ok (.iload_n 2, 1) := by decide +kernel
theorem dX2_pass_31 : decode cX2_pass 31 = .ok (.aload_n 0, 1) := by decide +kernel
theorem dX2_pass_32 : decode cX2_pass 32 = .ok (.getfield 39, 3) := by decide +kernel
theorem dX2_pass_35 : decode cX2_pass 35 = .ok (.if_icmp .ge 20, 3) := by decide +kernel
theorem dX2_pass_38 : decode cX2_pass 38 = .ok (.iload_n 2, 1) := by decide +kernel
theorem dX2_pass_39 : decode cX2_pass 39 = .ok (.iload_n 1, 1) := by decide +kernel
theorem dX2_pass_40 : decode cX2_pass 40 = .ok (.if_icmp .eq 9, 3) := by decide +kernel
theorem dX2_pass_43 : decode cX2_pass 43 = .ok (.aload_n 0, 1) := by decide +kernel
theorem dX2_pass_44 : decode cX2_pass 44 = .ok (.iload_n 2, 1) := by decide +kernel
theorem dX2_pass_45 : decode cX2_pass 45 = .ok (.invokevirtual 45, 3) := by decide +kernel
theorem dX2_pass_48 : decode cX2_pass 48 = .ok (.pop, 1) := by decide +kernel
theorem dX2_pass_49 : decode cX2_pass 49 = .ok (.iinc 2 1, 3) := by decide +kernel
theorem dX2_pass_52 : decode cX2_pass 52 = .ok (.goto (-22), 3) := by decide +kernel
theorem dX2_pass_55 : decode cX2_pass 55 = .ok (.return_, 1) := by decide +kernel
abbrev cX2_isSorted : ByteArray := prog_3_method_18_code
def yX2_isSorted : MethodName := ⟨RX2, "isSorted", "()Z"⟩
theorem dX2_isSorted_0 : decode cX2_isSorted 0 = .ok (.iconst 0, 1) := by decide +kernel
theorem dX2_isSorted_1 : decode cX2_isSorted 1 = .ok (.istore_n 1, 1) := by decide +kernel
theorem dX2_isSorted_2 : decode cX2_isSorted 2 = .ok (.iload_n 1, 1) := by decide +kernel
theorem dX2_isSorted_3 : decode cX2_isSorted 3 = .ok (.aload_n 0, 1) := by decide +kernel
theorem dX2_isSorted_4 : decode cX2_isSorted 4 = .ok (.getfield 31, 3) := by decide +kernel
theorem dX2_isSorted_7 : decode cX2_isSorted 7 = .ok (.if_icmp .ge 23, 3) := by decide +kernel
theorem dX2_isSorted_10 : decode cX2_isSorted 10 = .ok (.aload_n 0, 1) := by decide +kernel
theorem dX2_isSorted_11 : decode cX2_isSorted 11 = .ok (.getfield 22, 3) := by decide +kernel
theorem dX2_isSorted_14 : decode cX2_isSorted 14 = .ok (.iload_n 1, 1) := by decide +kernel
theorem dX2_isSorted_15 : decode cX2_isSorted 15 = .ok (.iaload, 1) := by decide +kernel
theorem dX2_isSorted_16 : decode cX2_isSorted 16 = .ok (.iload_n 1, 1) := by decide +kernel
theorem dX2_isSorted_17 : decode cX2_isSorted 17 = .ok (.iconst 1, 1) := by decide +kernel
theorem dX2_isSorted_18 : decode cX2_isSorted 18 = .ok (.iadd, 1) := by decide +kernel
theorem dX2_isSorted_19 : decode cX2_isSorted 19 = .ok (.if_icmp .eq 5, 3) := by decide +kernel
theorem dX2_isSorted_22 : decode cX2_isSorted 22 = .ok (.iconst 0, 1) := by decide +kernel
theorem dX2_isSorted_23 : decode cX2_isSorted 23 = .ok (.ireturn, 1) := by decide +kernel
theorem dX2_isSorted_24 : decode cX2_isSorted 24 = .ok (.iinc 1 1, 3) := by decide +kernel
theorem dX2_isSorted_27 : decode cX2_isSorted 27 = .ok (.goto (-25), 3) := by decide +kernel
theorem dX2_isSorted_30 : decode cX2_isSorted 30 = .ok (.iconst 1, 1) := by decide +kernel
theorem dX2_isSorted_31 : decode cX2_isSorted 31 = .ok (.ireturn, 1) := by decide +kernel
abbrev cX2_nextOrder : ByteArray := prog_3_method_14_code
def yX2_nextOrder : MethodName := ⟨RX2, "nextOrder", "()Z"⟩
theorem dX2_nextOrder_0 : decode cX2_nextOrder 0 = .ok (.aload_n 0, 1) := by decide +kernel
theorem dX2_nextOrder_1 : decode cX2_nextOrder 1 = .ok (.getfield 31, 3) := by decide +kernel
theorem dX2_nextOrder_4 : decode cX2_nextOrder 4 = .ok (.iconst 2, 1) := by decide +kernel
theorem dX2_nextOrder_5 : decode cX2_nextOrder 5 = .ok (.isub, 1) := by decide +kernel
theorem dX2_nextOrder_6 : decode cX2_nextOrder 6 = .ok (.istore_n 1, 1) := by decide +kernel
theorem dX2_nextOrder_7 : decode cX2_nextOrder 7 = .ok (.iload_n 1, 1) := by decide +kernel
theorem dX2_nextOrder_8 : decode cX2_nextOrder 8 = .ok (.ifCond .lt 26, 3) := by decide +kernel
theorem dX2_nextOrder_11 : decode cX2_nextOrder 11 = .ok (.aload_n 0, 1) := by decide +kernel
theorem dX2_nextOrder_12 : decode cX2_nextOrder 12 = .ok (.getfield 19, 3) := by decide +kernel
theorem dX2_nextOrder_15 : decode cX2_nextOrder 15 = .ok (.iload_n 1, 1) := by decide +kernel
theorem dX2_nextOrder_16 : decode cX2_nextOrder 16 = .ok (.iaload, 1) := by decide +kernel
theorem dX2_nextOrder_17 : decode cX2_nextOrder 17 = .ok (.aload_n 0, 1) := by decide +kernel
theorem dX2_nextOrder_18 : decode cX2_nextOrder 18 = .ok (.getfield 19, 3) := by decide +kernel
theorem dX2_nextOrder_21 : decode cX2_nextOrder 21 = .ok (.iload_n 1, 1) := by decide +kernel
theorem dX2_nextOrder_22 : decode cX2_nextOrder 22 = .ok (.iconst 1, 1) := by decide +kernel
theorem dX2_nextOrder_23 : decode cX2_nextOrder 23 = .ok (.iadd, 1) := by decide +kernel
theorem dX2_nextOrder_24 : decode cX2_nextOrder 24 = .ok (.iaload, 1) := by decide +kernel
theorem dX2_nextOrder_25 : decode cX2_nextOrder 25 = .ok (.if_icmp .le 9, 3) := by decide +kernel
theorem dX2_nextOrder_28 : decode cX2_nextOrder 28 = .ok (.iinc 1 (-1), 3) := by decide +kernel
theorem dX2_nextOrder_31 : decode cX2_nextOrder 31 = .ok (.goto (-24), 3) := by decide +kernel
theorem dX2_nextOrder_34 : decode cX2_nextOrder 34 = .ok (.iload_n 1, 1) := by decide +kernel
theorem dX2_nextOrder_35 : decode cX2_nextOrder 35 = .ok (.ifCond .ge 5, 3) := by decide +kernel
theorem dX2_nextOrder_38 : decode cX2_nextOrder 38 = .ok (.iconst 0, 1) := by decide +kernel
theorem dX2_nextOrder_39 : decode cX2_nextOrder 39 = .ok (.ireturn, 1) := by decide +kernel
theorem dX2_nextOrder_40 : decode cX2_nextOrder 40 = .ok (.aload_n 0, 1) := by decide +kernel
theorem dX2_nextOrder_41 : decode cX2_nextOrder 41 = .ok (.getfield 31, 3) := by decide +kernel
theorem dX2_nextOrder_44 : decode cX2_nextOrder 44 = .ok (.iconst 1, 1) := by decide +kernel
theorem dX2_nextOrder_45 : decode cX2_nextOrder 45 = .ok (.isub, 1) := by decide +kernel
theorem dX2_nextOrder_46 : decode cX2_nextOrder 46 = .ok (.istore_n 2, 1) := by decide +kernel
theorem dX2_nextOrder_47 : decode cX2_nextOrder 47 = .ok (.aload_n 0, 1) := by decide +kernel
theorem dX2_nextOrder_48 : decode cX2_nextOrder 48 = .ok (.getfield 19, 3) := by decide +kernel
theorem dX2_nextOrder_51 : decode cX2_nextOrder 51 = .ok (.iload_n 2, 1) := by decide +kernel
theorem dX2_nextOrder_52 : decode cX2_nextOrder 52 = .ok (.iaload, 1) := by decide +kernel
theorem dX2_nextOrder_53 : decode cX2_nextOrder 53 = .ok (.aload_n 0, 1) := by decide +kernel
theorem dX2_nextOrder_54 : decode cX2_nextOrder 54 = .ok (.getfield 19, 3) := by decide +kernel
theorem dX2_nextOrder_57 : decode cX2_nextOrder 57 = .ok (.iload_n 1, 1) := by decide +kernel
theorem dX2_nextOrder_58 : decode cX2_nextOrder 58 = .ok (.iaload, 1) := by decide +kernel
theorem dX2_nextOrder_59 : decode cX2_nextOrder 59 = .ok (.if_icmp .ge 9, 3) := by decide +kernel
theorem dX2_nextOrder_62 : decode cX2_nextOrder 62 = .ok (.iinc 2 (-1), 3) := by decide +kernel
theorem dX2_nextOrder_65 : decode cX2_nextOrder 65 = .ok (.goto (-18), 3) := by decide +kernel
theorem dX2_nextOrder_68 : decode cX2_nextOrder 68 = .ok (.aload_n 0, 1) := by decide +kernel
theorem dX2_nextOrder_69 : decode cX2_nextOrder 69 = .ok (.getfield 19, 3) := by decide +kernel
theorem dX2_nextOrder_72 : decode cX2_nextOrder 72 = .ok (.iload_n 1, 1) := by decide +kernel
theorem dX2_nextOrder_73 : decode cX2_nextOrder 73 = .ok (.iaload, 1) := by decide +kernel
theorem dX2_nextOrder_74 : decode cX2_nextOrder 74 = .ok (.istore_n 3, 1) := by decide +kernel
theorem dX2_nextOrder_75 : decode cX2_nextOrder 75 = .ok (.aload_n 0, 1) := by decide +kernel
theorem dX2_nextOrder_76 : decode cX2_nextOrder 76 = .ok (.getfield 19, 3) := by decide +kernel
theorem dX2_nextOrder_79 : decode cX2_nextOrder 79 = .ok (.iload_n 1, 1) := by decide +kernel
theorem dX2_nextOrder_80 : decode cX2_nextOrder 80 = .ok (.aload_n 0, 1) := by decide +kernel
theorem dX2_nextOrder_81 : decode cX2_nextOrder 81 = .ok (.getfield 19, 3) := by decide +kernel
theorem dX2_nextOrder_84 : decode cX2_nextOrder 84 = .ok (.iload_n 2, 1) := by decide +kernel
theorem dX2_nextOrder_85 : decode cX2_nextOrder 85 = .ok (.iaload, 1) := by decide +kernel
theorem dX2_nextOrder_86 : decode cX2_nextOrder 86 = .ok (.iastore, 1) := by decide +kernel
theorem dX2_nextOrder_87 : decode cX2_nextOrder 87 = .ok (.aload_n 0, 1) := by decide +kernel
theorem dX2_nextOrder_88 : decode cX2_nextOrder 88 = .ok (.getfield 19, 3) := by decide +kernel
theorem dX2_nextOrder_91 : decode cX2_nextOrder 91 = .ok (.iload_n 2, 1) := by decide +kernel
theorem dX2_nextOrder_92 : decode cX2_nextOrder 92 = .ok (.iload_n 3, 1) := by decide +kernel
theorem dX2_nextOrder_93 : decode cX2_nextOrder 93 = .ok (.iastore, 1) := by decide +kernel
theorem dX2_nextOrder_94 : decode cX2_nextOrder 94 = .ok (.iconst 1, 1) := by decide +kernel
theorem dX2_nextOrder_95 : decode cX2_nextOrder 95 = .ok (.istore 4, 2) := by decide +kernel
theorem dX2_nextOrder_97 : decode cX2_nextOrder 97 = .ok (.iload_n 1, 1) := by decide +kernel
theorem dX2_nextOrder_98 : decode cX2_nextOrder 98 = .ok (.iload 4, 2) := by decide +kernel
theorem dX2_nextOrder_100 : decode cX2_nextOrder 100 = .ok (.iadd, 1) := by decide +kernel
theorem dX2_nextOrder_101 : decode cX2_nextOrder 101 = .ok (.aload_n 0, 1) := by decide +kernel
theorem dX2_nextOrder_102 : decode cX2_nextOrder 102 = .ok (.getfield 31, 3) := by decide +kernel
theorem dX2_nextOrder_105 : decode cX2_nextOrder 105 = .ok (.iload 4, 2) := by decide +kernel
theorem dX2_nextOrder_107 : decode cX2_nextOrder 107 = .ok (.isub, 1) := by decide +kernel
theorem dX2_nextOrder_108 : decode cX2_nextOrder 108 = .ok (.if_icmp .ge 55, 3) := by decide +kernel
theorem dX2_nextOrder_111 : decode cX2_nextOrder 111 = .ok (.aload_n 0, 1) := by decide +kernel
theorem dX2_nextOrder_112 : decode cX2_nextOrder 112 = .ok (.getfield 19, 3) := by decide +kernel
theorem dX2_nextOrder_115 : decode cX2_nextOrder 115 = .ok (.iload_n 1, 1) := by decide +kernel
theorem dX2_nextOrder_116 : decode cX2_nextOrder 116 = .ok (.iload 4, 2) := by decide +kernel
theorem dX2_nextOrder_118 : decode cX2_nextOrder 118 = .ok (.iadd, 1) := by decide +kernel
theorem dX2_nextOrder_119 : decode cX2_nextOrder 119 = .ok (.iaload, 1) := by decide +kernel
theorem dX2_nextOrder_120 : decode cX2_nextOrder 120 = .ok (.istore 5, 2) := by decide +kernel
theorem dX2_nextOrder_122 : decode cX2_nextOrder 122 = .ok (.aload_n 0, 1) := by decide +kernel
theorem dX2_nextOrder_123 : decode cX2_nextOrder 123 = .ok (.getfield 19, 3) := by decide +kernel
theorem dX2_nextOrder_126 : decode cX2_nextOrder 126 = .ok (.iload_n 1, 1) := by decide +kernel
theorem dX2_nextOrder_127 : decode cX2_nextOrder 127 = .ok (.iload 4, 2) := by decide +kernel
theorem dX2_nextOrder_129 : decode cX2_nextOrder 129 = .ok (.iadd, 1) := by decide +kernel
theorem dX2_nextOrder_130 : decode cX2_nextOrder 130 = .ok (.aload_n 0, 1) := by decide +kernel
theorem dX2_nextOrder_131 : decode cX2_nextOrder 131 = .ok (.getfield 19, 3) := by decide +kernel
theorem dX2_nextOrder_134 : decode cX2_nextOrder 134 = .ok (.aload_n 0, 1) := by decide +kernel
theorem dX2_nextOrder_135 : decode cX2_nextOrder 135 = .ok (.getfield 31, 3) := by decide +kernel
theorem dX2_nextOrder_138 : decode cX2_nextOrder 138 = .ok (.iload 4, 2) := by decide +kernel
theorem dX2_nextOrder_140 : decode cX2_nextOrder 140 = .ok (.isub, 1) := by decide +kernel
theorem dX2_nextOrder_141 : decode cX2_nextOrder 141 = .ok (.iaload, 1) := by decide +kernel
theorem dX2_nextOrder_142 : decode cX2_nextOrder 142 = .ok (.iastore, 1) := by decide +kernel
theorem dX2_nextOrder_143 : decode cX2_nextOrder 143 = .ok (.aload_n 0, 1) := by decide +kernel
theorem dX2_nextOrder_144 : decode cX2_nextOrder 144 = .ok (.getfield 19, 3) := by decide +kernel
theorem dX2_nextOrder_147 : decode cX2_nextOrder 147 = .ok (.aload_n 0, 1) := by decide +kernel
theorem dX2_nextOrder_148 : decode cX2_nextOrder 148 = .ok (.getfield 31, 3) := by decide +kernel
theorem dX2_nextOrder_151 : decode cX2_nextOrder 151 = .ok (.iload 4, 2) := by decide +kernel
theorem dX2_nextOrder_153 : decode cX2_nextOrder 153 = .ok (.isub, 1) := by decide +kernel
theorem dX2_nextOrder_154 : decode cX2_nextOrder 154 = .ok (.iload 5, 2) := by decide +kernel
theorem dX2_nextOrder_156 : decode cX2_nextOrder 156 = .ok (.iastore, 1) := by decide +kernel
theorem dX2_nextOrder_157 : decode cX2_nextOrder 157 = .ok (.iinc 4 1, 3) := by decide +kernel
theorem dX2_nextOrder_160 : decode cX2_nextOrder 160 = .ok (.goto (-63), 3) := by decide +kernel
theorem dX2_nextOrder_163 : decode cX2_nextOrder 163 = .ok (.iconst 1, 1) := by decide +kernel
theorem dX2_nextOrder_164 : decode cX2_nextOrder 164 = .ok (.ireturn, 1) := by decide +kernel
abbrev cX2_ranks : ByteArray := prog_3_method_20_code
def yX2_ranks : MethodName := ⟨RX2, "ranks", "(II)I"⟩
theorem dX2_ranks_0 : decode cX2_ranks 0 = .ok (.aload_n 0, 1) := by decide +kernel
theorem dX2_ranks_1 : decode cX2_ranks 1 = .ok (.iload_n 1, 1) := by decide +kernel
theorem dX2_ranks_2 : decode cX2_ranks 2 = .ok (.invokevirtual 35, 3) := by decide +kernel
theorem dX2_ranks_5 : decode cX2_ranks 5 = .ok (.ifCond .ne 16, 3) := by decide +kernel
theorem dX2_ranks_8 : decode cX2_ranks 8 = .ok (.iload_n 2, 1) := by decide +kernel
theorem dX2_ranks_9 : decode cX2_ranks 9 = .ok (.iconst 1, 1) := by decide +kernel
theorem dX2_ranks_10 : decode cX2_ranks 10 = .ok (.if_icmp .lt 11, 3) := by decide +kernel
theorem dX2_ranks_13 : decode cX2_ranks 13 = .ok (.iload_n 2, 1) := by decide +kernel
theorem dX2_ranks_14 : decode cX2_ranks 14 = .ok (.aload_n 0, 1) := by decide +kernel
theorem dX2_ranks_15 : decode cX2_ranks 15 = .ok (.getfield 31, 3) := by decide +kernel
theorem dX2_ranks_18 : decode cX2_ranks 18 = .ok (.if_icmp .le 5, 3) := by decide +kernel
theorem dX2_ranks_21 : decode cX2_ranks 21 = .ok (.iconst (-1), 1) := by decide +kernel
theorem dX2_ranks_22 : decode cX2_ranks 22 = .ok (.ireturn, 1) := by decide +kernel
theorem dX2_ranks_23 : decode cX2_ranks 23 = .ok (.aload_n 0, 1) := by decide +kernel
theorem dX2_ranks_24 : decode cX2_ranks 24 = .ok (.invokevirtual 55, 3) := by decide +kernel
theorem dX2_ranks_27 : decode cX2_ranks 27 = .ok (.iconst 0, 1) := by decide +kernel
theorem dX2_ranks_28 : decode cX2_ranks 28 = .ok (.istore_n 3, 1) := by decide +kernel
theorem dX2_ranks_29 : decode cX2_ranks 29 = .ok (.iconst 1, 1) := by decide +kernel
theorem dX2_ranks_30 : decode cX2_ranks 30 = .ok (.istore 4, 2) := by decide +kernel
theorem dX2_ranks_32 : decode cX2_ranks 32 = .ok (.iload 4, 2) := by decide +kernel
theorem dX2_ranks_34 : decode cX2_ranks 34 = .ok (.ifCond .eq 30, 3) := by decide +kernel
theorem dX2_ranks_37 : decode cX2_ranks 37 = .ok (.aload_n 0, 1) := by decide +kernel
theorem dX2_ranks_38 : decode cX2_ranks 38 = .ok (.iconst (-1), 1) := by decide +kernel
theorem dX2_ranks_39 : decode cX2_ranks 39 = .ok (.invokevirtual 58, 3) := by decide +kernel
theorem dX2_ranks_42 : decode cX2_ranks 42 = .ok (.aload_n 0, 1) := by decide +kernel
theorem dX2_ranks_43 : decode cX2_ranks 43 = .ok (.getfield 22, 3) := by decide +kernel
theorem dX2_ranks_46 : decode cX2_ranks 46 = .ok (.iload_n 1, 1) := by decide +kernel
theorem dX2_ranks_47 : decode cX2_ranks 47 = .ok (.iaload, 1) := by decide +kernel
theorem dX2_ranks_48 : decode cX2_ranks 48 = .ok (.iload_n 2, 1) := by decide +kernel
theorem dX2_ranks_49 : decode cX2_ranks 49 = .ok (.if_icmp .ne 6, 3) := by decide +kernel
theorem dX2_ranks_52 : decode cX2_ranks 52 = .ok (.iinc 3 1, 3) := by decide +kernel
theorem dX2_ranks_55 : decode cX2_ranks 55 = .ok (.aload_n 0, 1) := by decide +kernel
theorem dX2_ranks_56 : decode cX2_ranks 56 = .ok (.invokevirtual 66, 3) := by decide +kernel
theorem dX2_ranks_59 : decode cX2_ranks 59 = .ok (.istore 4, 2) := by decide +kernel
theorem dX2_ranks_61 : decode cX2_ranks 61 = .ok (.goto (-29), 3) := by decide +kernel
theorem dX2_ranks_64 : decode cX2_ranks 64 = .ok (.iload_n 3, 1) := by decide +kernel
theorem dX2_ranks_65 : decode cX2_ranks 65 = .ok (.ireturn, 1) := by decide +kernel
abbrev cX2_works : ByteArray := prog_3_method_21_code
def yX2_works : MethodName := ⟨RX2, "works", "(I)I"⟩
theorem dX2_works_0 : decode cX2_works 0 = .ok (.aload_n 0, 1) := by decide +kernel
theorem dX2_works_1 : decode cX2_works 1 = .ok (.iload_n 1, 1) := by decide +kernel
theorem dX2_works_2 : decode cX2_works 2 = .ok (.invokevirtual 42, 3) := by decide +kernel
theorem dX2_works_5 : decode cX2_works 5 = .ok (.ifCond .ne 6, 3) := by decide +kernel
theorem dX2_works_8 : decode cX2_works 8 = .ok (.bipush (-4), 2) := by decide +kernel
theorem dX2_works_10 : decode cX2_works 10 = .ok (.ireturn, 1) := by decide +kernel
theorem dX2_works_11 : decode cX2_works 11 = .ok (.aload_n 0, 1) := by decide +kernel
theorem dX2_works_12 : decode cX2_works 12 = .ok (.invokevirtual 55, 3) := by decide +kernel
theorem dX2_works_15 : decode cX2_works 15 = .ok (.iconst 0, 1) := by decide +kernel
theorem dX2_works_16 : decode cX2_works 16 = .ok (.istore_n 2, 1) := by decide +kernel
theorem dX2_works_17 : decode cX2_works 17 = .ok (.iconst 1, 1) := by decide +kernel
theorem dX2_works_18 : decode cX2_works 18 = .ok (.istore_n 3, 1) := by decide +kernel
theorem dX2_works_19 : decode cX2_works 19 = .ok (.iload_n 3, 1) := by decide +kernel
theorem dX2_works_20 : decode cX2_works 20 = .ok (.ifCond .eq 77, 3) := by decide +kernel
theorem dX2_works_23 : decode cX2_works 23 = .ok (.iconst 0, 1) := by decide +kernel
theorem dX2_works_24 : decode cX2_works 24 = .ok (.istore 4, 2) := by decide +kernel
theorem dX2_works_26 : decode cX2_works 26 = .ok (.iload 4, 2) := by decide +kernel
theorem dX2_works_28 : decode cX2_works 28 = .ok (.aload_n 0, 1) := by decide +kernel
theorem dX2_works_29 : decode cX2_works 29 = .ok (.getfield 31, 3) := by decide +kernel
theorem dX2_works_32 : decode cX2_works 32 = .ok (.if_icmp .ge 23, 3) := by decide +kernel
theorem dX2_works_35 : decode cX2_works 35 = .ok (.aload_n 0, 1) := by decide +kernel
theorem dX2_works_36 : decode cX2_works 36 = .ok (.getfield 22, 3) := by decide +kernel
theorem dX2_works_39 : decode cX2_works 39 = .ok (.iload 4, 2) := by decide +kernel
theorem dX2_works_41 : decode cX2_works 41 = .ok (.aload_n 0, 1) := by decide +kernel
theorem dX2_works_42 : decode cX2_works 42 = .ok (.getfield 19, 3) := by decide +kernel
theorem dX2_works_45 : decode cX2_works 45 = .ok (.iload 4, 2) := by decide +kernel
theorem dX2_works_47 : decode cX2_works 47 = .ok (.iaload, 1) := by decide +kernel
theorem dX2_works_48 : decode cX2_works 48 = .ok (.iastore, 1) := by decide +kernel
theorem dX2_works_49 : decode cX2_works 49 = .ok (.iinc 4 1, 3) := by decide +kernel
theorem dX2_works_52 : decode cX2_works 52 = .ok (.goto (-26), 3) := by decide +kernel
theorem dX2_works_55 : decode cX2_works 55 = .ok (.iconst 0, 1) := by decide +kernel
theorem dX2_works_56 : decode cX2_works 56 = .ok (.istore 4, 2) := by decide +kernel
theorem dX2_works_58 : decode cX2_works 58 = .ok (.iconst 0, 1) := by decide +kernel
theorem dX2_works_59 : decode cX2_works 59 = .ok (.istore 5, 2) := by decide +kernel
theorem dX2_works_61 : decode cX2_works 61 = .ok (.iload 5, 2) := by decide +kernel
theorem dX2_works_63 : decode cX2_works 63 = .ok (.iload_n 1, 1) := by decide +kernel
theorem dX2_works_64 : decode cX2_works 64 = .ok (.if_icmp .gt 17, 3) := by decide +kernel
theorem dX2_works_67 : decode cX2_works 67 = .ok (.aload_n 0, 1) := by decide +kernel
theorem dX2_works_68 : decode cX2_works 68 = .ok (.iload 5, 2) := by decide +kernel
theorem dX2_works_70 : decode cX2_works 70 = .ok (.invokevirtual 45, 3) := by decide +kernel
theorem dX2_works_73 : decode cX2_works 73 = .ok (.istore 4, 2) := by decide +kernel
theorem dX2_works_75 : decode cX2_works 75 = .ok (.iinc 5 1, 3) := by decide +kernel
theorem dX2_works_78 : decode cX2_works 78 = .ok (.goto (-17), 3) := by decide +kernel
theorem dX2_works_81 : decode cX2_works 81 = .ok (.iload 4, 2) := by decide +kernel
theorem dX2_works_83 : decode cX2_works 83 = .ok (.ifCond .eq 6, 3) := by decide +kernel
theorem dX2_works_86 : decode cX2_works 86 = .ok (.iinc 2 1, 3) := by decide +kernel
theorem dX2_works_89 : decode cX2_works 89 = .ok (.aload_n 0, 1) := by decide +kernel
theorem dX2_works_90 : decode cX2_works 90 = .ok (.invokevirtual 66, 3) := by decide +kernel
theorem dX2_works_93 : decode cX2_works 93 = .ok (.istore_n 3, 1) := by decide +kernel
theorem dX2_works_94 : decode cX2_works 94 = .ok (.goto (-75), 3) := by decide +kernel
theorem dX2_works_97 : decode cX2_works 97 = .ok (.iload_n 2, 1) := by decide +kernel
theorem dX2_works_98 : decode cX2_works 98 = .ok (.ireturn, 1) := by decide +kernel
abbrev cX2_below : ByteArray := prog_3_method_22_code
def yX2_below : MethodName := ⟨RX2, "below", "(II)I"⟩
theorem dX2_below_0 : decode cX2_below 0 = .ok (.aload_n 0, 1) := by decide +kernel
theorem dX2_below_1 : decode cX2_below 1 = .ok (.iload_n 1, 1) := by decide +kernel
theorem dX2_below_2 : decode cX2_below 2 = .ok (.invokevirtual 35, 3) := by decide +kernel
theorem dX2_below_5 : decode cX2_below 5 = .ok (.ifCond .ne 11, 3) := by decide +kernel
theorem dX2_below_8 : decode cX2_below 8 = .ok (.aload_n 0, 1) := by decide +kernel
theorem dX2_below_9 : decode cX2_below 9 = .ok (.iload_n 2, 1) := by decide +kernel
theorem dX2_below_10 : decode cX2_below 10 = .ok (.invokevirtual 35, 3) := by decide +kernel
theorem dX2_below_13 : decode cX2_below 13 = .ok (.ifCond .eq 5, 3) := by decide +kernel
theorem dX2_below_16 : decode cX2_below 16 = .ok (.iconst (-1), 1) := by decide +kernel
theorem dX2_below_17 : decode cX2_below 17 = .ok (.ireturn, 1) := by decide +kernel
theorem dX2_below_18 : decode cX2_below 18 = .ok (.aload_n 0, 1) := by decide +kernel
theorem dX2_below_19 : decode cX2_below 19 = .ok (.invokevirtual 55, 3) := by decide +kernel
theorem dX2_below_22 : decode cX2_below 22 = .ok (.iconst 0, 1) := by decide +kernel
theorem dX2_below_23 : decode cX2_below 23 = .ok (.istore_n 3, 1) := by decide +kernel
theorem dX2_below_24 : decode cX2_below 24 = .ok (.iconst 1, 1) := by decide +kernel
theorem dX2_below_25 : decode cX2_below 25 = .ok (.istore 4, 2) := by decide +kernel
theorem dX2_below_27 : decode cX2_below 27 = .ok (.iload 4, 2) := by decide +kernel
theorem dX2_below_29 : decode cX2_below 29 = .ok (.ifCond .eq 35, 3) := by decide +kernel
theorem dX2_below_32 : decode cX2_below 32 = .ok (.aload_n 0, 1) := by decide +kernel
theorem dX2_below_33 : decode cX2_below 33 = .ok (.iconst (-1), 1) := by decide +kernel
theorem dX2_below_34 : decode cX2_below 34 = .ok (.invokevirtual 58, 3) := by decide +kernel
theorem dX2_below_37 : decode cX2_below 37 = .ok (.aload_n 0, 1) := by decide +kernel
theorem dX2_below_38 : decode cX2_below 38 = .ok (.getfield 22, 3) := by decide +kernel
theorem dX2_below_41 : decode cX2_below 41 = .ok (.iload_n 1, 1) := by decide +kernel
theorem dX2_below_42 : decode cX2_below 42 = .ok (.iaload, 1) := by decide +kernel
theorem dX2_below_43 : decode cX2_below 43 = .ok (.aload_n 0, 1) := by decide +kernel
theorem dX2_below_44 : decode cX2_below 44 = .ok (.getfield 22, 3) := by decide +kernel
theorem dX2_below_47 : decode cX2_below 47 = .ok (.iload_n 2, 1) := by decide +kernel
theorem dX2_below_48 : decode cX2_below 48 = .ok (.iaload, 1) := by decide +kernel
theorem dX2_below_49 : decode cX2_below 49 = .ok (.if_icmp .ge 6, 3) := by decide +kernel
theorem dX2_below_52 : decode cX2_below 52 = .ok (.iinc 3 1, 3) := by decide +kernel
theorem dX2_below_55 : decode cX2_below 55 = .ok (.aload_n 0, 1) := by decide +kernel
theorem dX2_below_56 : decode cX2_below 56 = .ok (.invokevirtual 66, 3) := by decide +kernel
theorem dX2_below_59 : decode cX2_below 59 = .ok (.istore 4, 2) := by decide +kernel
theorem dX2_below_61 : decode cX2_below 61 = .ok (.goto (-34), 3) := by decide +kernel
theorem dX2_below_64 : decode cX2_below 64 = .ok (.iload_n 3, 1) := by decide +kernel
theorem dX2_below_65 : decode cX2_below 65 = .ok (.ireturn, 1) := by decide +kernel
abbrev cX2_idle : ByteArray := prog_3_method_24_code
def yX2_idle : MethodName := ⟨RX2, "idle", "()I"⟩
theorem dX2_idle_0 : decode cX2_idle 0 = .ok (.iconst 0, 1) := by decide +kernel
theorem dX2_idle_1 : decode cX2_idle 1 = .ok (.istore_n 1, 1) := by decide +kernel
theorem dX2_idle_2 : decode cX2_idle 2 = .ok (.iconst 0, 1) := by decide +kernel
theorem dX2_idle_3 : decode cX2_idle 3 = .ok (.istore_n 2, 1) := by decide +kernel
theorem dX2_idle_4 : decode cX2_idle 4 = .ok (.iload_n 2, 1) := by decide +kernel
theorem dX2_idle_5 : decode cX2_idle 5 = .ok (.aload_n 0, 1) := by decide +kernel
theorem dX2_idle_6 : decode cX2_idle 6 = .ok (.getfield 39, 3) := by decide +kernel
theorem dX2_idle_9 : decode cX2_idle 9 = .ok (.if_icmp .ge 49, 3) := by decide +kernel
theorem dX2_idle_12 : decode cX2_idle 12 = .ok (.aload_n 0, 1) := by decide +kernel
theorem dX2_idle_13 : decode cX2_idle 13 = .ok (.invokevirtual 55, 3) := by decide +kernel
theorem dX2_idle_16 : decode cX2_idle 16 = .ok (.iconst 1, 1) := by decide +kernel
theorem dX2_idle_17 : decode cX2_idle 17 = .ok (.istore_n 3, 1) := by decide +kernel
theorem dX2_idle_18 : decode cX2_idle 18 = .ok (.iconst 1, 1) := by decide +kernel
theorem dX2_idle_19 : decode cX2_idle 19 = .ok (.istore 4, 2) := by decide +kernel
theorem dX2_idle_21 : decode cX2_idle 21 = .ok (.iload 4, 2) := by decide +kernel
theorem dX2_idle_23 : decode cX2_idle 23 = .ok (.ifCond .eq 22, 3) := by decide +kernel
theorem dX2_idle_26 : decode cX2_idle 26 = .ok (.iload_n 3, 1) := by decide +kernel
theorem dX2_idle_27 : decode cX2_idle 27 = .ok (.ifCond .eq 18, 3) := by decide +kernel
theorem dX2_idle_30 : decode cX2_idle 30 = .ok (.aload_n 0, 1) := by decide +kernel
theorem dX2_idle_31 : decode cX2_idle 31 = .ok (.iload_n 2, 1) := by decide +kernel
theorem dX2_idle_32 : decode cX2_idle 32 = .ok (.invokevirtual 69, 3) := by decide +kernel
theorem dX2_idle_35 : decode cX2_idle 35 = .ok (.istore_n 3, 1) := by decide +kernel
theorem dX2_idle_36 : decode cX2_idle 36 = .ok (.aload_n 0, 1) := by decide +kernel
theorem dX2_idle_37 : decode cX2_idle 37 = .ok (.invokevirtual 66, 3) := by decide +kernel
theorem dX2_idle_40 : decode cX2_idle 40 = .ok (.istore 4, 2) := by decide +kernel
theorem dX2_idle_42 : decode cX2_idle 42 = .ok (.goto (-21), 3) := by decide +kernel
theorem dX2_idle_45 : decode cX2_idle 45 = .ok (.iload_n 3, 1) := by decide +kernel
theorem dX2_idle_46 : decode cX2_idle 46 = .ok (.ifCond .eq 6, 3) := by decide +kernel
theorem dX2_idle_49 : decode cX2_idle 49 = .ok (.iinc 1 1, 3) := by decide +kernel
theorem dX2_idle_52 : decode cX2_idle 52 = .ok (.iinc 2 1, 3) := by decide +kernel
theorem dX2_idle_55 : decode cX2_idle 55 = .ok (.goto (-51), 3) := by decide +kernel
theorem dX2_idle_58 : decode cX2_idle 58 = .ok (.iload_n 1, 1) := by decide +kernel
theorem dX2_idle_59 : decode cX2_idle 59 = .ok (.ireturn, 1) := by decide +kernel
abbrev cX2_same : ByteArray := prog_3_method_23_code
def yX2_same : MethodName := ⟨RX2, "same", "(I)Z"⟩
theorem dX2_same_0 : decode cX2_same 0 = .ok (.aload_n 0, 1) := by decide +kernel
theorem dX2_same_1 : decode cX2_same 1 = .ok (.iconst (-1), 1) := by decide +kernel
theorem dX2_same_2 : decode cX2_same 2 = .ok (.invokevirtual 58, 3) := by decide +kernel
theorem dX2_same_5 : decode cX2_same 5 = .ok (.iconst 0, 1) := by decide +kernel
theorem dX2_same_6 : decode cX2_same 6 = .ok (.istore_n 2, 1) := by decide +kernel
theorem dX2_same_7 : decode cX2_same 7 = .ok (.iload_n 2, 1) := by decide +kernel
theorem dX2_same_8 : decode cX2_same 8 = .ok (.aload_n 0, 1) := by decide +kernel
theorem dX2_same_9 : decode cX2_same 9 = .ok (.getfield 31, 3) := by decide +kernel
theorem dX2_same_12 : decode cX2_same 12 = .ok (.if_icmp .ge 21, 3) := by decide +kernel
theorem dX2_same_15 : decode cX2_same 15 = .ok (.aload_n 0, 1) := by decide +kernel
theorem dX2_same_16 : decode cX2_same 16 = .ok (.getfield 25, 3) := by decide +kernel
theorem dX2_same_19 : decode cX2_same 19 = .ok (.iload_n 2, 1) := by decide +kernel
theorem dX2_same_20 : decode cX2_same 20 = .ok (.aload_n 0, 1) := by decide +kernel
theorem dX2_same_21 : decode cX2_same 21 = .ok (.getfield 22, 3) := by decide +kernel
theorem dX2_same_24 : decode cX2_same 24 = .ok (.iload_n 2, 1) := by decide +kernel
theorem dX2_same_25 : decode cX2_same 25 = .ok (.iaload, 1) := by decide +kernel
theorem dX2_same_26 : decode cX2_same 26 = .ok (.iastore, 1) := by decide +kernel
theorem dX2_same_27 : decode cX2_same 27 = .ok (.iinc 2 1, 3) := by decide +kernel
theorem dX2_same_30 : decode cX2_same 30 = .ok (.goto (-23), 3) := by decide +kernel
theorem dX2_same_33 : decode cX2_same 33 = .ok (.aload_n 0, 1) := by decide +kernel
theorem dX2_same_34 : decode cX2_same 34 = .ok (.iload_n 1, 1) := by decide +kernel
theorem dX2_same_35 : decode cX2_same 35 = .ok (.invokevirtual 58, 3) := by decide +kernel
theorem dX2_same_38 : decode cX2_same 38 = .ok (.iconst 0, 1) := by decide +kernel
theorem dX2_same_39 : decode cX2_same 39 = .ok (.istore_n 2, 1) := by decide +kernel
theorem dX2_same_40 : decode cX2_same 40 = .ok (.iload_n 2, 1) := by decide +kernel
theorem dX2_same_41 : decode cX2_same 41 = .ok (.aload_n 0, 1) := by decide +kernel
theorem dX2_same_42 : decode cX2_same 42 = .ok (.getfield 31, 3) := by decide +kernel
theorem dX2_same_45 : decode cX2_same 45 = .ok (.if_icmp .ge 26, 3) := by decide +kernel
theorem dX2_same_48 : decode cX2_same 48 = .ok (.aload_n 0, 1) := by decide +kernel
theorem dX2_same_49 : decode cX2_same 49 = .ok (.getfield 25, 3) := by decide +kernel
theorem dX2_same_52 : decode cX2_same 52 = .ok (.iload_n 2, 1) := by decide +kernel
theorem dX2_same_53 : decode cX2_same 53 = .ok (.iaload, 1) := by decide +kernel
theorem dX2_same_54 : decode cX2_same 54 = .ok (.aload_n 0, 1) := by decide +kernel
theorem dX2_same_55 : decode cX2_same 55 = .ok (.getfield 22, 3) := by decide +kernel
theorem dX2_same_58 : decode cX2_same 58 = .ok (.iload_n 2, 1) := by decide +kernel
theorem dX2_same_59 : decode cX2_same 59 = .ok (.iaload, 1) := by decide +kernel
theorem dX2_same_60 : decode cX2_same 60 = .ok (.if_icmp .eq 5, 3) := by decide +kernel
theorem dX2_same_63 : decode cX2_same 63 = .ok (.iconst 0, 1) := by decide +kernel
theorem dX2_same_64 : decode cX2_same 64 = .ok (.ireturn, 1) := by decide +kernel
theorem dX2_same_65 : decode cX2_same 65 = .ok (.iinc 2 1, 3) := by decide +kernel
theorem dX2_same_68 : decode cX2_same 68 = .ok (.goto (-28), 3) := by decide +kernel
theorem dX2_same_71 : decode cX2_same 71 = .ok (.iconst 1, 1) := by decide +kernel
theorem dX2_same_72 : decode cX2_same 72 = .ok (.ireturn, 1) := by decide +kernel
end
section
set_option maxRecDepth 100000
abbrev cX2_rounds : ByteArray := prog_3_method_25_code
def yX2_rounds : MethodName := ⟨RX2, "rounds", "()I"⟩
theorem dX2_rounds_0 : decode cX2_rounds 0 = .ok (.iconst 0, 1) := by decide +kernel
theorem dX2_rounds_1 : decode cX2_rounds 1 = .ok (.istore_n 1, 1) := by decide +kernel
theorem dX2_rounds_2 : decode cX2_rounds 2 = .ok (.iload_n 1, 1) := by decide +kernel
theorem dX2_rounds_3 : decode cX2_rounds 3 = .ok (.aload_n 0, 1) := by decide +kernel
theorem dX2_rounds_4 : decode cX2_rounds 4 = .ok (.getfield 31, 3) := by decide +kernel
theorem dX2_rounds_7 : decode cX2_rounds 7 = .ok (.if_icmp .ge 16, 3) := by decide +kernel
theorem dX2_rounds_10 : decode cX2_rounds 10 = .ok (.aload_n 0, 1) := by decide +kernel
theorem dX2_rounds_11 : decode cX2_rounds 11 = .ok (.getfield 28, 3) := by decide +kernel
theorem dX2_rounds_14 : decode cX2_rounds 14 = .ok (.iload_n 1, 1) := by decide +kernel
theorem dX2_rounds_15 : decode cX2_rounds 15 = .ok (.iconst 0, 1) := by decide +kernel
theorem dX2_rounds_16 : decode cX2_rounds 16 = .ok (.iastore, 1) := by decide +kernel
theorem dX2_rounds_17 : decode cX2_rounds 17 = .ok (.iinc 1 1, 3) := by decide +kernel
theorem dX2_rounds_20 : decode cX2_rounds 20 = .ok (.goto (-18), 3) := by decide +kernel
theorem dX2_rounds_23 : decode cX2_rounds 23 = .ok (.iconst 0, 1) := by decide +kernel
theorem dX2_rounds_24 : decode cX2_rounds 24 = .ok (.istore_n 1, 1) := by decide +kernel
theorem dX2_rounds_25 : decode cX2_rounds 25 = .ok (.iconst 0, 1) := by decide +kernel
theorem dX2_rounds_26 : decode cX2_rounds 26 = .ok (.istore_n 2, 1) := by decide +kernel
theorem dX2_rounds_27 : decode cX2_rounds 27 = .ok (.iload_n 2, 1) := by decide +kernel
theorem dX2_rounds_28 : decode cX2_rounds 28 = .ok (.aload_n 0, 1) := by decide +kernel
theorem dX2_rounds_29 : decode cX2_rounds 29 = .ok (.getfield 39, 3) := by decide +kernel
theorem dX2_rounds_32 : decode cX2_rounds 32 = .ok (.if_icmp .ge 88, 3) := by decide +kernel
theorem dX2_rounds_35 : decode cX2_rounds 35 = .ok (.aload_n 0, 1) := by decide +kernel
theorem dX2_rounds_36 : decode cX2_rounds 36 = .ok (.getfield 7, 3) := by decide +kernel
theorem dX2_rounds_39 : decode cX2_rounds 39 = .ok (.iload_n 2, 1) := by decide +kernel
theorem dX2_rounds_40 : decode cX2_rounds 40 = .ok (.iaload, 1) := by decide +kernel
theorem dX2_rounds_41 : decode cX2_rounds 41 = .ok (.istore_n 3, 1) := by decide +kernel
theorem dX2_rounds_42 : decode cX2_rounds 42 = .ok (.aload_n 0, 1) := by decide +kernel
theorem dX2_rounds_43 : decode cX2_rounds 43 = .ok (.getfield 13, 3) := by decide +kernel
theorem dX2_rounds_46 : decode cX2_rounds 46 = .ok (.iload_n 2, 1) := by decide +kernel
theorem dX2_rounds_47 : decode cX2_rounds 47 = .ok (.iaload, 1) := by decide +kernel
theorem dX2_rounds_48 : decode cX2_rounds 48 = .ok (.istore 4, 2) := by decide +kernel
theorem dX2_rounds_50 : decode cX2_rounds 50 = .ok (.aload_n 0, 1) := by decide +kernel
theorem dX2_rounds_51 : decode cX2_rounds 51 = .ok (.getfield 28, 3) := by decide +kernel
theorem dX2_rounds_54 : decode cX2_rounds 54 = .ok (.iload_n 3, 1) := by decide +kernel
theorem dX2_rounds_55 : decode cX2_rounds 55 = .ok (.iaload, 1) := by decide +kernel
theorem dX2_rounds_56 : decode cX2_rounds 56 = .ok (.aload_n 0, 1) := by decide +kernel
theorem dX2_rounds_57 : decode cX2_rounds 57 = .ok (.getfield 28, 3) := by decide +kernel
theorem dX2_rounds_60 : decode cX2_rounds 60 = .ok (.iload 4, 2) := by decide +kernel
theorem dX2_rounds_62 : decode cX2_rounds 62 = .ok (.iaload, 1) := by decide +kernel
theorem dX2_rounds_63 : decode cX2_rounds 63 = .ok (.if_icmp .le 14, 3) := by decide +kernel
theorem dX2_rounds_66 : decode cX2_rounds 66 = .ok (.aload_n 0, 1) := by decide +kernel
theorem dX2_rounds_67 : decode cX2_rounds 67 = .ok (.getfield 28, 3) := by decide +kernel
theorem dX2_rounds_70 : decode cX2_rounds 70 = .ok (.iload_n 3, 1) := by decide +kernel
theorem dX2_rounds_71 : decode cX2_rounds 71 = .ok (.iaload, 1) := by decide +kernel
theorem dX2_rounds_72 : decode cX2_rounds 72 = .ok (.iconst 1, 1) := by decide +kernel
theorem dX2_rounds_73 : decode cX2_rounds 73 = .ok (.iadd, 1) := by decide +kernel
theorem dX2_rounds_74 : decode cX2_rounds 74 = .ok (.goto 12, 3) := by decide +kernel
theorem dX2_rounds_77 : decode cX2_rounds 77 = .ok (.aload_n 0, 1) := by decide +kernel
theorem dX2_rounds_78 : decode cX2_rounds 78 = .ok (.getfield 28, 3) := by decide +kernel
theorem dX2_rounds_81 : decode cX2_rounds 81 = .ok (.iload 4, 2) := by decide +kernel
theorem dX2_rounds_83 : decode cX2_rounds 83 = .ok (.iaload, 1) := by decide +kernel
theorem dX2_rounds_84 : decode cX2_rounds 84 = .ok (.iconst 1, 1) := by decide +kernel
theorem dX2_rounds_85 : decode cX2_rounds 85 = .ok (.iadd, 1) := by decide +kernel
theorem dX2_rounds_86 : decode cX2_rounds 86 = .ok (.istore 5, 2) := by decide +kernel
theorem dX2_rounds_88 : decode cX2_rounds 88 = .ok (.aload_n 0, 1) := by decide +kernel
theorem dX2_rounds_89 : decode cX2_rounds 89 = .ok (.getfield 28, 3) := by decide +kernel
theorem dX2_rounds_92 : decode cX2_rounds 92 = .ok (.iload_n 3, 1) := by decide +kernel
theorem dX2_rounds_93 : decode cX2_rounds 93 = .ok (.iload 5, 2) := by decide +kernel
theorem dX2_rounds_95 : decode cX2_rounds 95 = .ok (.iastore, 1) := by decide +kernel
theorem dX2_rounds_96 : decode cX2_rounds 96 = .ok (.aload_n 0, 1) := by decide +kernel
theorem dX2_rounds_97 : decode cX2_rounds 97 = .ok (.getfield 28, 3) := by decide +kernel
theorem dX2_rounds_100 : decode cX2_rounds 100 = .ok (.iload 4, 2) := by decide +kernel
theorem dX2_rounds_102 : decode cX2_rounds 102 = .ok (.iload 5, 2) := by decide +kernel
theorem dX2_rounds_104 : decode cX2_rounds 104 = .ok (.iastore, 1) := by decide +kernel
theorem dX2_rounds_105 : decode cX2_rounds 105 = .ok (.iload 5, 2) := by decide +kernel
theorem dX2_rounds_107 : decode cX2_rounds 107 = .ok (.iload_n 1, 1) := by decide +kernel
theorem dX2_rounds_108 : decode cX2_rounds 108 = .ok (.if_icmp .le 6, 3) := by decide +kernel
theorem dX2_rounds_111 : decode cX2_rounds 111 = .ok (.iload 5, 2) := by decide +kernel
theorem dX2_rounds_113 : decode cX2_rounds 113 = .ok (.istore_n 1, 1) := by decide +kernel
theorem dX2_rounds_114 : decode cX2_rounds 114 = .ok (.iinc 2 1, 3) := by decide +kernel
theorem dX2_rounds_117 : decode cX2_rounds 117 = .ok (.goto (-90), 3) := by decide +kernel
theorem dX2_rounds_120 : decode cX2_rounds 120 = .ok (.iload_n 1, 1) := by decide +kernel
theorem dX2_rounds_121 : decode cX2_rounds 121 = .ok (.ireturn, 1) := by decide +kernel
theorem q20 : (Jvm.Cond.initialized "ComparatorNetModel") ∈ lw_all := lw_g (lw_at lw_m1 2 rfl) rfl
theorem q166 : (Jvm.Cond.instantiable "ComparatorNetModel" (9 : Nat)) ∈ lw_all := lw_g (lw_at lw_m1 148 rfl) rfl
theorem q168 : (Jvm.Cond.instanceMethod ({ cls := "ComparatorNetModel", name := "<init>", desc := "(I)V" } : Jvm.MethodName)) ∈ lw_all := lw_g (lw_at lw_m1 150 rfl) rfl
theorem q169 : (Jvm.Cond.code ({ cls := "ComparatorNetModel", name := "<init>", desc := "(I)V" } : Jvm.MethodName) prog_3_method_1_code (2 : Nat) (Option.none : Option Jvm.ClassFile.FieldType)) ∈ lw_all := lw_g (lw_at lw_m1 151 rfl) rfl
theorem q170 : (Jvm.Cond.methodLink "ComparatorNetModel" (1 : Nat) ({ cls := "java/lang/Object", name := "<init>", desc := "()V" } : Jvm.MethodName)) ∈ lw_all := lw_g (lw_at lw_m1 152 rfl) rfl
theorem q171 : (Jvm.Cond.fieldLink "ComparatorNetModel" (31 : Nat) "ComparatorNetModel" "n" "I") ∈ lw_all := lw_g (lw_at lw_m1 153 rfl) rfl
theorem q172 : (Jvm.Cond.fieldLink "ComparatorNetModel" (39 : Nat) "ComparatorNetModel" "size" "I") ∈ lw_all := lw_g (lw_at lw_m1 154 rfl) rfl
theorem q173 : (Jvm.Cond.fieldLink "ComparatorNetModel" (7 : Nat) "ComparatorNetModel" "lows" "[I") ∈ lw_all := lw_g (lw_at lw_m1 155 rfl) rfl
theorem q174 : (Jvm.Cond.fieldLink "ComparatorNetModel" (13 : Nat) "ComparatorNetModel" "highs" "[I") ∈ lw_all := lw_g (lw_at lw_m1 156 rfl) rfl
theorem q175 : (Jvm.Cond.fieldLink "ComparatorNetModel" (16 : Nat) "ComparatorNetModel" "inputs" "[I") ∈ lw_all := lw_g (lw_at lw_m1 157 rfl) rfl
theorem q176 : (Jvm.Cond.fieldLink "ComparatorNetModel" (19 : Nat) "ComparatorNetModel" "order" "[I") ∈ lw_all := lw_g (lw_at lw_m1 158 rfl) rfl
theorem q177 : (Jvm.Cond.fieldLink "ComparatorNetModel" (22 : Nat) "ComparatorNetModel" "wires" "[I") ∈ lw_all := lw_g (lw_at lw_m1 159 rfl) rfl
theorem q178 : (Jvm.Cond.fieldLink "ComparatorNetModel" (25 : Nat) "ComparatorNetModel" "others" "[I") ∈ lw_all := lw_g (lw_at lw_m1 160 rfl) rfl
theorem q179 : (Jvm.Cond.fieldLink "ComparatorNetModel" (28 : Nat) "ComparatorNetModel" "last" "[I") ∈ lw_all := lw_g (lw_at lw_m1 161 rfl) rfl
theorem q180 : (Jvm.Cond.lays "ComparatorNetModel" "ComparatorNetModel" "n" "I") ∈ lw_all := lw_g (lw_at lw_m1 162 rfl) rfl
theorem q181 : (Jvm.Cond.soleField "ComparatorNetModel" "n") ∈ lw_all := lw_g (lw_at lw_m1 163 rfl) rfl
theorem q182 : (Jvm.Cond.lays "ComparatorNetModel" "ComparatorNetModel" "size" "I") ∈ lw_all := lw_g (lw_at lw_m1 164 rfl) rfl
theorem q183 : (Jvm.Cond.soleField "ComparatorNetModel" "size") ∈ lw_all := lw_g (lw_at lw_m1 165 rfl) rfl
theorem q184 : (Jvm.Cond.lays "ComparatorNetModel" "ComparatorNetModel" "lows" "[I") ∈ lw_all := lw_g (lw_at lw_m1 166 rfl) rfl
theorem q185 : (Jvm.Cond.soleField "ComparatorNetModel" "lows") ∈ lw_all := lw_g (lw_at lw_m1 167 rfl) rfl
theorem q186 : (Jvm.Cond.lays "ComparatorNetModel" "ComparatorNetModel" "highs" "[I") ∈ lw_all := lw_g (lw_at lw_m1 168 rfl) rfl
theorem q187 : (Jvm.Cond.soleField "ComparatorNetModel" "highs") ∈ lw_all := lw_g (lw_at lw_m1 169 rfl) rfl
theorem q188 : (Jvm.Cond.lays "ComparatorNetModel" "ComparatorNetModel" "inputs" "[I") ∈ lw_all := lw_g (lw_at lw_m1 170 rfl) rfl
theorem q189 : (Jvm.Cond.soleField "ComparatorNetModel" "inputs") ∈ lw_all := lw_g (lw_at lw_m1 171 rfl) rfl
theorem q190 : (Jvm.Cond.lays "ComparatorNetModel" "ComparatorNetModel" "order" "[I") ∈ lw_all := lw_g (lw_at lw_m1 172 rfl) rfl
theorem q191 : (Jvm.Cond.soleField "ComparatorNetModel" "order") ∈ lw_all := lw_g (lw_at lw_m1 173 rfl) rfl
theorem q192 : (Jvm.Cond.lays "ComparatorNetModel" "ComparatorNetModel" "wires" "[I") ∈ lw_all := lw_g (lw_at lw_m1 174 rfl) rfl
theorem q193 : (Jvm.Cond.soleField "ComparatorNetModel" "wires") ∈ lw_all := lw_g (lw_at lw_m1 175 rfl) rfl
theorem q194 : (Jvm.Cond.lays "ComparatorNetModel" "ComparatorNetModel" "others" "[I") ∈ lw_all := lw_g (lw_at lw_m1 176 rfl) rfl
theorem q195 : (Jvm.Cond.soleField "ComparatorNetModel" "others") ∈ lw_all := lw_g (lw_at lw_m1 177 rfl) rfl
theorem q196 : (Jvm.Cond.lays "ComparatorNetModel" "ComparatorNetModel" "last" "[I") ∈ lw_all := lw_g (lw_at lw_m1 178 rfl) rfl
theorem q197 : (Jvm.Cond.soleField "ComparatorNetModel" "last") ∈ lw_all := lw_g (lw_at lw_m1 179 rfl) rfl
theorem q198 : (Jvm.Cond.superclass "ComparatorNetModel" "java/lang/Object") ∈ lw_all := lw_g (lw_at lw_m1 180 rfl) rfl
theorem q200 : (Jvm.Cond.instanceMethod ({ cls := "ComparatorNetModel", name := "add", desc := "(II)I" } : Jvm.MethodName)) ∈ lw_all := lw_g (lw_at lw_m1 182 rfl) rfl
theorem q201 : (Jvm.Cond.selects "ComparatorNetModel" ({ cls := "ComparatorNetModel", name := "add", desc := "(II)I" } : Jvm.MethodName) ({ cls := "ComparatorNetModel", name := "add", desc := "(II)I" } : Jvm.MethodName)) ∈ lw_all := lw_g (lw_at lw_m1 183 rfl) rfl
theorem q202 : (Jvm.Cond.code ({ cls := "ComparatorNetModel", name := "add", desc := "(II)I" } : Jvm.MethodName) prog_3_method_3_code (3 : Nat) (Option.some Jvm.ClassFile.FieldType.int)) ∈ lw_all := lw_g (lw_at lw_m1 184 rfl) rfl
theorem q203 : (Jvm.Cond.methodLink "ComparatorNetModel" (35 : Nat) ({ cls := "ComparatorNetModel", name := "noWire", desc := "(I)Z" } : Jvm.MethodName)) ∈ lw_all := lw_g (lw_at lw_m1 185 rfl) rfl
theorem q204 : (Jvm.Cond.privateMethod ({ cls := "ComparatorNetModel", name := "noWire", desc := "(I)Z" } : Jvm.MethodName)) ∈ lw_tbl := lw_at lw_m1 186 rfl
theorem q205 : (Jvm.Cond.instanceMethod ({ cls := "ComparatorNetModel", name := "noWire", desc := "(I)Z" } : Jvm.MethodName)) ∈ lw_all := lw_g (lw_at lw_m1 187 rfl) rfl
theorem q206 : (Jvm.Cond.code ({ cls := "ComparatorNetModel", name := "noWire", desc := "(I)Z" } : Jvm.MethodName) prog_3_method_2_code (2 : Nat) (Option.some Jvm.ClassFile.FieldType.boolean)) ∈ lw_all := lw_g (lw_at lw_m1 188 rfl) rfl
theorem q208 : (Jvm.Cond.instanceMethod ({ cls := "ComparatorNetModel", name := "drop", desc := "(I)I" } : Jvm.MethodName)) ∈ lw_all := lw_g (lw_at lw_m1 190 rfl) rfl
theorem q209 : (Jvm.Cond.selects "ComparatorNetModel" ({ cls := "ComparatorNetModel", name := "drop", desc := "(I)I" } : Jvm.MethodName) ({ cls := "ComparatorNetModel", name := "drop", desc := "(I)I" } : Jvm.MethodName)) ∈ lw_all := lw_g (lw_at lw_m1 191 rfl) rfl
theorem q210 : (Jvm.Cond.code ({ cls := "ComparatorNetModel", name := "drop", desc := "(I)I" } : Jvm.MethodName) prog_3_method_5_code (3 : Nat) (Option.some Jvm.ClassFile.FieldType.int)) ∈ lw_all := lw_g (lw_at lw_m1 192 rfl) rfl
theorem q211 : (Jvm.Cond.methodLink "ComparatorNetModel" (42 : Nat) ({ cls := "ComparatorNetModel", name := "is", desc := "(I)Z" } : Jvm.MethodName)) ∈ lw_all := lw_g (lw_at lw_m1 193 rfl) rfl
theorem q212 : (Jvm.Cond.privateMethod ({ cls := "ComparatorNetModel", name := "is", desc := "(I)Z" } : Jvm.MethodName)) ∈ lw_tbl := lw_at lw_m1 194 rfl
theorem q213 : (Jvm.Cond.instanceMethod ({ cls := "ComparatorNetModel", name := "is", desc := "(I)Z" } : Jvm.MethodName)) ∈ lw_all := lw_g (lw_at lw_m1 195 rfl) rfl
theorem q214 : (Jvm.Cond.code ({ cls := "ComparatorNetModel", name := "is", desc := "(I)Z" } : Jvm.MethodName) prog_3_method_4_code (2 : Nat) (Option.some Jvm.ClassFile.FieldType.boolean)) ∈ lw_all := lw_g (lw_at lw_m1 196 rfl) rfl
theorem q216 : (Jvm.Cond.instanceMethod ({ cls := "ComparatorNetModel", name := "swap", desc := "(I)I" } : Jvm.MethodName)) ∈ lw_all := lw_g (lw_at lw_m1 198 rfl) rfl
theorem q217 : (Jvm.Cond.selects "ComparatorNetModel" ({ cls := "ComparatorNetModel", name := "swap", desc := "(I)I" } : Jvm.MethodName) ({ cls := "ComparatorNetModel", name := "swap", desc := "(I)I" } : Jvm.MethodName)) ∈ lw_all := lw_g (lw_at lw_m1 199 rfl) rfl
theorem q218 : (Jvm.Cond.code ({ cls := "ComparatorNetModel", name := "swap", desc := "(I)I" } : Jvm.MethodName) prog_3_method_6_code (4 : Nat) (Option.some Jvm.ClassFile.FieldType.int)) ∈ lw_all := lw_g (lw_at lw_m1 200 rfl) rfl
theorem q220 : (Jvm.Cond.instanceMethod ({ cls := "ComparatorNetModel", name := "turn", desc := "()I" } : Jvm.MethodName)) ∈ lw_all := lw_g (lw_at lw_m1 202 rfl) rfl
theorem q221 : (Jvm.Cond.selects "ComparatorNetModel" ({ cls := "ComparatorNetModel", name := "turn", desc := "()I" } : Jvm.MethodName) ({ cls := "ComparatorNetModel", name := "turn", desc := "()I" } : Jvm.MethodName)) ∈ lw_all := lw_g (lw_at lw_m1 203 rfl) rfl
theorem q222 : (Jvm.Cond.code ({ cls := "ComparatorNetModel", name := "turn", desc := "()I" } : Jvm.MethodName) prog_3_method_7_code (3 : Nat) (Option.some Jvm.ClassFile.FieldType.int)) ∈ lw_all := lw_g (lw_at lw_m1 204 rfl) rfl
theorem q224 : (Jvm.Cond.instanceMethod ({ cls := "ComparatorNetModel", name := "size", desc := "()I" } : Jvm.MethodName)) ∈ lw_all := lw_g (lw_at lw_m1 206 rfl) rfl
theorem q225 : (Jvm.Cond.selects "ComparatorNetModel" ({ cls := "ComparatorNetModel", name := "size", desc := "()I" } : Jvm.MethodName) ({ cls := "ComparatorNetModel", name := "size", desc := "()I" } : Jvm.MethodName)) ∈ lw_all := lw_g (lw_at lw_m1 207 rfl) rfl
theorem q226 : (Jvm.Cond.code ({ cls := "ComparatorNetModel", name := "size", desc := "()I" } : Jvm.MethodName) prog_3_method_8_code (1 : Nat) (Option.some Jvm.ClassFile.FieldType.int)) ∈ lw_all := lw_g (lw_at lw_m1 208 rfl) rfl
theorem q228 : (Jvm.Cond.instanceMethod ({ cls := "ComparatorNetModel", name := "input", desc := "(II)I" } : Jvm.MethodName)) ∈ lw_all := lw_g (lw_at lw_m1 210 rfl) rfl
theorem q229 : (Jvm.Cond.selects "ComparatorNetModel" ({ cls := "ComparatorNetModel", name := "input", desc := "(II)I" } : Jvm.MethodName) ({ cls := "ComparatorNetModel", name := "input", desc := "(II)I" } : Jvm.MethodName)) ∈ lw_all := lw_g (lw_at lw_m1 211 rfl) rfl
theorem q230 : (Jvm.Cond.code ({ cls := "ComparatorNetModel", name := "input", desc := "(II)I" } : Jvm.MethodName) prog_3_method_9_code (3 : Nat) (Option.some Jvm.ClassFile.FieldType.int)) ∈ lw_all := lw_g (lw_at lw_m1 212 rfl) rfl
theorem q232 : (Jvm.Cond.instanceMethod ({ cls := "ComparatorNetModel", name := "output", desc := "(I)I" } : Jvm.MethodName)) ∈ lw_all := lw_g (lw_at lw_m1 214 rfl) rfl
theorem q233 : (Jvm.Cond.selects "ComparatorNetModel" ({ cls := "ComparatorNetModel", name := "output", desc := "(I)I" } : Jvm.MethodName) ({ cls := "ComparatorNetModel", name := "output", desc := "(I)I" } : Jvm.MethodName)) ∈ lw_all := lw_g (lw_at lw_m1 215 rfl) rfl
theorem q234 : (Jvm.Cond.code ({ cls := "ComparatorNetModel", name := "output", desc := "(I)I" } : Jvm.MethodName) prog_3_method_11_code (3 : Nat) (Option.some Jvm.ClassFile.FieldType.int)) ∈ lw_all := lw_g (lw_at lw_m1 216 rfl) rfl
theorem q235 : (Jvm.Cond.methodLink "ComparatorNetModel" (45 : Nat) ({ cls := "ComparatorNetModel", name := "compare", desc := "(I)Z" } : Jvm.MethodName)) ∈ lw_all := lw_g (lw_at lw_m1 217 rfl) rfl
theorem q236 : (Jvm.Cond.privateMethod ({ cls := "ComparatorNetModel", name := "compare", desc := "(I)Z" } : Jvm.MethodName)) ∈ lw_tbl := lw_at lw_m1 218 rfl
theorem q237 : (Jvm.Cond.instanceMethod ({ cls := "ComparatorNetModel", name := "compare", desc := "(I)Z" } : Jvm.MethodName)) ∈ lw_all := lw_g (lw_at lw_m1 219 rfl) rfl
theorem q238 : (Jvm.Cond.code ({ cls := "ComparatorNetModel", name := "compare", desc := "(I)Z" } : Jvm.MethodName) prog_3_method_10_code (5 : Nat) (Option.some Jvm.ClassFile.FieldType.boolean)) ∈ lw_all := lw_g (lw_at lw_m1 220 rfl) rfl
theorem q240 : (Jvm.Cond.instanceMethod ({ cls := "ComparatorNetModel", name := "exchanges", desc := "()I" } : Jvm.MethodName)) ∈ lw_all := lw_g (lw_at lw_m1 222 rfl) rfl
theorem q241 : (Jvm.Cond.selects "ComparatorNetModel" ({ cls := "ComparatorNetModel", name := "exchanges", desc := "()I" } : Jvm.MethodName) ({ cls := "ComparatorNetModel", name := "exchanges", desc := "()I" } : Jvm.MethodName)) ∈ lw_all := lw_g (lw_at lw_m1 223 rfl) rfl
theorem q242 : (Jvm.Cond.code ({ cls := "ComparatorNetModel", name := "exchanges", desc := "()I" } : Jvm.MethodName) prog_3_method_12_code (4 : Nat) (Option.some Jvm.ClassFile.FieldType.int)) ∈ lw_all := lw_g (lw_at lw_m1 224 rfl) rfl
theorem q244 : (Jvm.Cond.instanceMethod ({ cls := "ComparatorNetModel", name := "sorts", desc := "()I" } : Jvm.MethodName)) ∈ lw_all := lw_g (lw_at lw_m1 226 rfl) rfl
theorem q245 : (Jvm.Cond.selects "ComparatorNetModel" ({ cls := "ComparatorNetModel", name := "sorts", desc := "()I" } : Jvm.MethodName) ({ cls := "ComparatorNetModel", name := "sorts", desc := "()I" } : Jvm.MethodName)) ∈ lw_all := lw_g (lw_at lw_m1 227 rfl) rfl
theorem q246 : (Jvm.Cond.code ({ cls := "ComparatorNetModel", name := "sorts", desc := "()I" } : Jvm.MethodName) prog_3_method_17_code (2 : Nat) (Option.some Jvm.ClassFile.FieldType.int)) ∈ lw_all := lw_g (lw_at lw_m1 228 rfl) rfl
theorem q247 : (Jvm.Cond.methodLink "ComparatorNetModel" (48 : Nat) ({ cls := "ComparatorNetModel", name := "all", desc := "()I" } : Jvm.MethodName)) ∈ lw_all := lw_g (lw_at lw_m1 229 rfl) rfl
theorem q248 : (Jvm.Cond.privateMethod ({ cls := "ComparatorNetModel", name := "all", desc := "()I" } : Jvm.MethodName)) ∈ lw_tbl := lw_at lw_m1 230 rfl
theorem q249 : (Jvm.Cond.instanceMethod ({ cls := "ComparatorNetModel", name := "all", desc := "()I" } : Jvm.MethodName)) ∈ lw_all := lw_g (lw_at lw_m1 231 rfl) rfl
theorem q250 : (Jvm.Cond.code ({ cls := "ComparatorNetModel", name := "all", desc := "()I" } : Jvm.MethodName) prog_3_method_16_code (3 : Nat) (Option.some Jvm.ClassFile.FieldType.int)) ∈ lw_all := lw_g (lw_at lw_m1 232 rfl) rfl
theorem q251 : (Jvm.Cond.methodLink "ComparatorNetModel" (52 : Nat) ({ cls := "ComparatorNetModel", name := "sorted", desc := "()I" } : Jvm.MethodName)) ∈ lw_all := lw_g (lw_at lw_m1 233 rfl) rfl
theorem q252 : (Jvm.Cond.instanceMethod ({ cls := "ComparatorNetModel", name := "sorted", desc := "()I" } : Jvm.MethodName)) ∈ lw_all := lw_g (lw_at lw_m1 234 rfl) rfl
theorem q253 : (Jvm.Cond.selects "ComparatorNetModel" ({ cls := "ComparatorNetModel", name := "sorted", desc := "()I" } : Jvm.MethodName) ({ cls := "ComparatorNetModel", name := "sorted", desc := "()I" } : Jvm.MethodName)) ∈ lw_all := lw_g (lw_at lw_m1 235 rfl) rfl
theorem q254 : (Jvm.Cond.code ({ cls := "ComparatorNetModel", name := "sorted", desc := "()I" } : Jvm.MethodName) prog_3_method_19_code (3 : Nat) (Option.some Jvm.ClassFile.FieldType.int)) ∈ lw_all := lw_g (lw_at lw_m1 236 rfl) rfl
theorem q255 : (Jvm.Cond.methodLink "ComparatorNetModel" (55 : Nat) ({ cls := "ComparatorNetModel", name := "firstOrder", desc := "()V" } : Jvm.MethodName)) ∈ lw_all := lw_g (lw_at lw_m1 237 rfl) rfl
theorem q256 : (Jvm.Cond.privateMethod ({ cls := "ComparatorNetModel", name := "firstOrder", desc := "()V" } : Jvm.MethodName)) ∈ lw_tbl := lw_at lw_m1 238 rfl
theorem q257 : (Jvm.Cond.instanceMethod ({ cls := "ComparatorNetModel", name := "firstOrder", desc := "()V" } : Jvm.MethodName)) ∈ lw_all := lw_g (lw_at lw_m1 239 rfl) rfl
theorem q258 : (Jvm.Cond.code ({ cls := "ComparatorNetModel", name := "firstOrder", desc := "()V" } : Jvm.MethodName) prog_3_method_13_code (2 : Nat) (Option.none : Option Jvm.ClassFile.FieldType)) ∈ lw_all := lw_g (lw_at lw_m2 0 rfl) rfl
theorem q259 : (Jvm.Cond.methodLink "ComparatorNetModel" (58 : Nat) ({ cls := "ComparatorNetModel", name := "pass", desc := "(I)V" } : Jvm.MethodName)) ∈ lw_all := lw_g (lw_at lw_m2 1 rfl) rfl
theorem q260 : (Jvm.Cond.privateMethod ({ cls := "ComparatorNetModel", name := "pass", desc := "(I)V" } : Jvm.MethodName)) ∈ lw_tbl := lw_at lw_m2 2 rfl
theorem q261 : (Jvm.Cond.instanceMethod ({ cls := "ComparatorNetModel", name := "pass", desc := "(I)V" } : Jvm.MethodName)) ∈ lw_all := lw_g (lw_at lw_m2 3 rfl) rfl
theorem q262 : (Jvm.Cond.code ({ cls := "ComparatorNetModel", name := "pass", desc := "(I)V" } : Jvm.MethodName) prog_3_method_15_code (3 : Nat) (Option.none : Option Jvm.ClassFile.FieldType)) ∈ lw_all := lw_g (lw_at lw_m2 4 rfl) rfl
theorem q263 : (Jvm.Cond.methodLink "ComparatorNetModel" (62 : Nat) ({ cls := "ComparatorNetModel", name := "isSorted", desc := "()Z" } : Jvm.MethodName)) ∈ lw_all := lw_g (lw_at lw_m2 5 rfl) rfl
theorem q264 : (Jvm.Cond.privateMethod ({ cls := "ComparatorNetModel", name := "isSorted", desc := "()Z" } : Jvm.MethodName)) ∈ lw_tbl := lw_at lw_m2 6 rfl
theorem q265 : (Jvm.Cond.instanceMethod ({ cls := "ComparatorNetModel", name := "isSorted", desc := "()Z" } : Jvm.MethodName)) ∈ lw_all := lw_g (lw_at lw_m2 7 rfl) rfl
theorem q266 : (Jvm.Cond.code ({ cls := "ComparatorNetModel", name := "isSorted", desc := "()Z" } : Jvm.MethodName) prog_3_method_18_code (2 : Nat) (Option.some Jvm.ClassFile.FieldType.boolean)) ∈ lw_all := lw_g (lw_at lw_m2 8 rfl) rfl
theorem q267 : (Jvm.Cond.methodLink "ComparatorNetModel" (66 : Nat) ({ cls := "ComparatorNetModel", name := "nextOrder", desc := "()Z" } : Jvm.MethodName)) ∈ lw_all := lw_g (lw_at lw_m2 9 rfl) rfl
theorem q268 : (Jvm.Cond.privateMethod ({ cls := "ComparatorNetModel", name := "nextOrder", desc := "()Z" } : Jvm.MethodName)) ∈ lw_tbl := lw_at lw_m2 10 rfl
theorem q269 : (Jvm.Cond.instanceMethod ({ cls := "ComparatorNetModel", name := "nextOrder", desc := "()Z" } : Jvm.MethodName)) ∈ lw_all := lw_g (lw_at lw_m2 11 rfl) rfl
theorem q270 : (Jvm.Cond.code ({ cls := "ComparatorNetModel", name := "nextOrder", desc := "()Z" } : Jvm.MethodName) prog_3_method_14_code (6 : Nat) (Option.some Jvm.ClassFile.FieldType.boolean)) ∈ lw_all := lw_g (lw_at lw_m2 12 rfl) rfl
theorem q273 : (Jvm.Cond.instanceMethod ({ cls := "ComparatorNetModel", name := "ranks", desc := "(II)I" } : Jvm.MethodName)) ∈ lw_all := lw_g (lw_at lw_m2 15 rfl) rfl
theorem q274 : (Jvm.Cond.selects "ComparatorNetModel" ({ cls := "ComparatorNetModel", name := "ranks", desc := "(II)I" } : Jvm.MethodName) ({ cls := "ComparatorNetModel", name := "ranks", desc := "(II)I" } : Jvm.MethodName)) ∈ lw_all := lw_g (lw_at lw_m2 16 rfl) rfl
theorem q275 : (Jvm.Cond.code ({ cls := "ComparatorNetModel", name := "ranks", desc := "(II)I" } : Jvm.MethodName) prog_3_method_20_code (5 : Nat) (Option.some Jvm.ClassFile.FieldType.int)) ∈ lw_all := lw_g (lw_at lw_m2 17 rfl) rfl
theorem q277 : (Jvm.Cond.instanceMethod ({ cls := "ComparatorNetModel", name := "works", desc := "(I)I" } : Jvm.MethodName)) ∈ lw_all := lw_g (lw_at lw_m2 19 rfl) rfl
theorem q278 : (Jvm.Cond.selects "ComparatorNetModel" ({ cls := "ComparatorNetModel", name := "works", desc := "(I)I" } : Jvm.MethodName) ({ cls := "ComparatorNetModel", name := "works", desc := "(I)I" } : Jvm.MethodName)) ∈ lw_all := lw_g (lw_at lw_m2 20 rfl) rfl
theorem q279 : (Jvm.Cond.code ({ cls := "ComparatorNetModel", name := "works", desc := "(I)I" } : Jvm.MethodName) prog_3_method_21_code (6 : Nat) (Option.some Jvm.ClassFile.FieldType.int)) ∈ lw_all := lw_g (lw_at lw_m2 21 rfl) rfl
theorem q281 : (Jvm.Cond.instanceMethod ({ cls := "ComparatorNetModel", name := "below", desc := "(II)I" } : Jvm.MethodName)) ∈ lw_all := lw_g (lw_at lw_m2 23 rfl) rfl
theorem q282 : (Jvm.Cond.selects "ComparatorNetModel" ({ cls := "ComparatorNetModel", name := "below", desc := "(II)I" } : Jvm.MethodName) ({ cls := "ComparatorNetModel", name := "below", desc := "(II)I" } : Jvm.MethodName)) ∈ lw_all := lw_g (lw_at lw_m2 24 rfl) rfl
theorem q283 : (Jvm.Cond.code ({ cls := "ComparatorNetModel", name := "below", desc := "(II)I" } : Jvm.MethodName) prog_3_method_22_code (5 : Nat) (Option.some Jvm.ClassFile.FieldType.int)) ∈ lw_all := lw_g (lw_at lw_m2 25 rfl) rfl
theorem q285 : (Jvm.Cond.instanceMethod ({ cls := "ComparatorNetModel", name := "idle", desc := "()I" } : Jvm.MethodName)) ∈ lw_all := lw_g (lw_at lw_m2 27 rfl) rfl
theorem q286 : (Jvm.Cond.selects "ComparatorNetModel" ({ cls := "ComparatorNetModel", name := "idle", desc := "()I" } : Jvm.MethodName) ({ cls := "ComparatorNetModel", name := "idle", desc := "()I" } : Jvm.MethodName)) ∈ lw_all := lw_g (lw_at lw_m2 28 rfl) rfl
theorem q287 : (Jvm.Cond.code ({ cls := "ComparatorNetModel", name := "idle", desc := "()I" } : Jvm.MethodName) prog_3_method_24_code (5 : Nat) (Option.some Jvm.ClassFile.FieldType.int)) ∈ lw_all := lw_g (lw_at lw_m2 29 rfl) rfl
theorem q288 : (Jvm.Cond.methodLink "ComparatorNetModel" (69 : Nat) ({ cls := "ComparatorNetModel", name := "same", desc := "(I)Z" } : Jvm.MethodName)) ∈ lw_all := lw_g (lw_at lw_m2 30 rfl) rfl
theorem q289 : (Jvm.Cond.privateMethod ({ cls := "ComparatorNetModel", name := "same", desc := "(I)Z" } : Jvm.MethodName)) ∈ lw_tbl := lw_at lw_m2 31 rfl
theorem q290 : (Jvm.Cond.instanceMethod ({ cls := "ComparatorNetModel", name := "same", desc := "(I)Z" } : Jvm.MethodName)) ∈ lw_all := lw_g (lw_at lw_m2 32 rfl) rfl
theorem q291 : (Jvm.Cond.code ({ cls := "ComparatorNetModel", name := "same", desc := "(I)Z" } : Jvm.MethodName) prog_3_method_23_code (3 : Nat) (Option.some Jvm.ClassFile.FieldType.boolean)) ∈ lw_all := lw_g (lw_at lw_m2 33 rfl) rfl
theorem q293 : (Jvm.Cond.instanceMethod ({ cls := "ComparatorNetModel", name := "rounds", desc := "()I" } : Jvm.MethodName)) ∈ lw_all := lw_g (lw_at lw_m2 35 rfl) rfl
theorem q294 : (Jvm.Cond.selects "ComparatorNetModel" ({ cls := "ComparatorNetModel", name := "rounds", desc := "()I" } : Jvm.MethodName) ({ cls := "ComparatorNetModel", name := "rounds", desc := "()I" } : Jvm.MethodName)) ∈ lw_all := lw_g (lw_at lw_m2 36 rfl) rfl
theorem q295 : (Jvm.Cond.code ({ cls := "ComparatorNetModel", name := "rounds", desc := "()I" } : Jvm.MethodName) prog_3_method_25_code (6 : Nat) (Option.some Jvm.ClassFile.FieldType.int)) ∈ lw_all := lw_g (lw_at lw_m2 37 rfl) rfl
theorem in_X2 : ∀ w ∈ wsX20, w ∈ lw_all := lw_in wsX20 [180, 182, 184, 186, 188, 190, 192, 194, 196] (by decide +kernel) (by decide +kernel)
end
section
set_option maxRecDepth 100000
/-! java/lang/Object -/
def RJ0 : String := "java/lang/Object"
abbrev cJ0_init : ByteArray := object_method_1_code
def yJ0_init : MethodName := ⟨RJ0, "<init>", "()V"⟩
theorem dJ0_init_0 : decode cJ0_init 0 = .ok (.return_, 1) := by decide +kernel
theorem q27 : (Jvm.Cond.instanceMethod ({ cls := "java/lang/Object", name := "<init>", desc := "()V" } : Jvm.MethodName)) ∈ lw_all := lw_g (lw_at lw_m1 9 rfl) rfl
theorem q28 : (Jvm.Cond.code ({ cls := "java/lang/Object", name := "<init>", desc := "()V" } : Jvm.MethodName) object_method_1_code (1 : Nat) (Option.none : Option Jvm.ClassFile.FieldType)) ∈ lw_all := lw_g (lw_at lw_m1 10 rfl) rfl
theorem q63 : (Jvm.Cond.arrayClass Jvm.ClassFile.FieldType.byte) ∈ lw_all := lw_g (lw_at lw_m1 45 rfl) rfl
theorem q64 : (Jvm.Cond.arrayClass Jvm.ClassFile.FieldType.int) ∈ lw_all := lw_g (lw_at lw_m1 46 rfl) rfl
theorem q65 : (Jvm.Cond.arrayClass Jvm.ClassFile.FieldType.short) ∈ lw_all := lw_g (lw_at lw_m1 47 rfl) rfl
/-! ComparatorNetLaw -/
def RX0 : String := "ComparatorNetLaw"
abbrev cX0_cell : ByteArray := method_2_code
def yX0_cell : MethodName := ⟨RX0, "cell", "([II)I"⟩
theorem dX0_cell_0 : decode cX0_cell 0 = .ok (.iload_n 1, 1) := by decide +kernel
theorem dX0_cell_1 : decode cX0_cell 1 = .ok (.aload_n 0, 1) := by decide +kernel
theorem dX0_cell_2 : decode cX0_cell 2 = .ok (.arraylength, 1) := by decide +kernel
theorem dX0_cell_3 : decode cX0_cell 3 = .ok (.if_icmp .ge 9, 3) := by decide +kernel
theorem dX0_cell_6 : decode cX0_cell 6 = .ok (.aload_n 0, 1) := by decide +kernel
theorem dX0_cell_7 : decode cX0_cell 7 = .ok (.iload_n 1, 1) := by decide +kernel
theorem dX0_cell_8 : decode cX0_cell 8 = .ok (.iaload, 1) := by decide +kernel
theorem dX0_cell_9 : decode cX0_cell 9 = .ok (.goto 4, 3) := by decide +kernel
theorem dX0_cell_12 : decode cX0_cell 12 = .ok (.iconst 0, 1) := by decide +kernel
theorem dX0_cell_13 : decode cX0_cell 13 = .ok (.ireturn, 1) := by decide +kernel
theorem q18 : (Jvm.Cond.initialized "ComparatorNetLaw") ∈ lw_all := lw_g (lw_at lw_m1 0 rfl) rfl
theorem q21 : (Jvm.Cond.classLink "ComparatorNetLaw" (7 : Nat) "ComparatorNet") ∈ lw_all := lw_g (lw_at lw_m1 3 rfl) rfl
theorem q23 : (Jvm.Cond.methodLink "ComparatorNetLaw" (15 : Nat) ({ cls := "ComparatorNet", name := "<init>", desc := "(I)V" } : Jvm.MethodName)) ∈ lw_all := lw_g (lw_at lw_m1 5 rfl) rfl
theorem q66 : (Jvm.Cond.methodLink "ComparatorNetLaw" (21 : Nat) ({ cls := "ComparatorNet", name := "add", desc := "(II)I" } : Jvm.MethodName)) ∈ lw_all := lw_g (lw_at lw_m1 48 rfl) rfl
theorem q74 : (Jvm.Cond.methodLink "ComparatorNetLaw" (26 : Nat) ({ cls := "ComparatorNet", name := "drop", desc := "(I)I" } : Jvm.MethodName)) ∈ lw_all := lw_g (lw_at lw_m1 56 rfl) rfl
theorem q78 : (Jvm.Cond.methodLink "ComparatorNetLaw" (31 : Nat) ({ cls := "ComparatorNet", name := "swap", desc := "(I)I" } : Jvm.MethodName)) ∈ lw_all := lw_g (lw_at lw_m1 60 rfl) rfl
theorem q82 : (Jvm.Cond.methodLink "ComparatorNetLaw" (35 : Nat) ({ cls := "ComparatorNet", name := "turn", desc := "()I" } : Jvm.MethodName)) ∈ lw_all := lw_g (lw_at lw_m1 64 rfl) rfl
theorem q86 : (Jvm.Cond.methodLink "ComparatorNetLaw" (40 : Nat) ({ cls := "ComparatorNet", name := "size", desc := "()I" } : Jvm.MethodName)) ∈ lw_all := lw_g (lw_at lw_m1 68 rfl) rfl
theorem q90 : (Jvm.Cond.methodLink "ComparatorNetLaw" (44 : Nat) ({ cls := "ComparatorNet", name := "input", desc := "(II)I" } : Jvm.MethodName)) ∈ lw_all := lw_g (lw_at lw_m1 72 rfl) rfl
theorem q94 : (Jvm.Cond.methodLink "ComparatorNetLaw" (48 : Nat) ({ cls := "ComparatorNet", name := "output", desc := "(I)I" } : Jvm.MethodName)) ∈ lw_all := lw_g (lw_at lw_m1 76 rfl) rfl
theorem q102 : (Jvm.Cond.methodLink "ComparatorNetLaw" (52 : Nat) ({ cls := "ComparatorNet", name := "exchanges", desc := "()I" } : Jvm.MethodName)) ∈ lw_all := lw_g (lw_at lw_m1 84 rfl) rfl
theorem q106 : (Jvm.Cond.methodLink "ComparatorNetLaw" (56 : Nat) ({ cls := "ComparatorNet", name := "sorts", desc := "()I" } : Jvm.MethodName)) ∈ lw_all := lw_g (lw_at lw_m1 88 rfl) rfl
theorem q126 : (Jvm.Cond.methodLink "ComparatorNetLaw" (60 : Nat) ({ cls := "ComparatorNet", name := "sorted", desc := "()I" } : Jvm.MethodName)) ∈ lw_all := lw_g (lw_at lw_m1 108 rfl) rfl
theorem q130 : (Jvm.Cond.methodLink "ComparatorNetLaw" (64 : Nat) ({ cls := "ComparatorNet", name := "ranks", desc := "(II)I" } : Jvm.MethodName)) ∈ lw_all := lw_g (lw_at lw_m1 112 rfl) rfl
theorem q138 : (Jvm.Cond.methodLink "ComparatorNetLaw" (68 : Nat) ({ cls := "ComparatorNet", name := "works", desc := "(I)I" } : Jvm.MethodName)) ∈ lw_all := lw_g (lw_at lw_m1 120 rfl) rfl
theorem q146 : (Jvm.Cond.methodLink "ComparatorNetLaw" (72 : Nat) ({ cls := "ComparatorNet", name := "below", desc := "(II)I" } : Jvm.MethodName)) ∈ lw_all := lw_g (lw_at lw_m1 128 rfl) rfl
theorem q150 : (Jvm.Cond.methodLink "ComparatorNetLaw" (76 : Nat) ({ cls := "ComparatorNet", name := "idle", desc := "()I" } : Jvm.MethodName)) ∈ lw_all := lw_g (lw_at lw_m1 132 rfl) rfl
theorem q158 : (Jvm.Cond.methodLink "ComparatorNetLaw" (80 : Nat) ({ cls := "ComparatorNet", name := "rounds", desc := "()I" } : Jvm.MethodName)) ∈ lw_all := lw_g (lw_at lw_m1 140 rfl) rfl
theorem q162 : (Jvm.Cond.methodLink "ComparatorNetLaw" (9 : Nat) ({ cls := "ComparatorNetLaw", name := "cell", desc := "([II)I" } : Jvm.MethodName)) ∈ lw_all := lw_g (lw_at lw_m1 144 rfl) rfl
theorem q163 : (Jvm.Cond.static ({ cls := "ComparatorNetLaw", name := "cell", desc := "([II)I" } : Jvm.MethodName)) ∈ lw_all := lw_g (lw_at lw_m1 145 rfl) rfl
theorem q164 : (Jvm.Cond.code ({ cls := "ComparatorNetLaw", name := "cell", desc := "([II)I" } : Jvm.MethodName) method_2_code (2 : Nat) (Option.some Jvm.ClassFile.FieldType.int)) ∈ lw_all := lw_g (lw_at lw_m1 146 rfl) rfl
theorem q165 : (Jvm.Cond.classLink "ComparatorNetLaw" (18 : Nat) "ComparatorNetModel") ∈ lw_all := lw_g (lw_at lw_m1 147 rfl) rfl
theorem q167 : (Jvm.Cond.methodLink "ComparatorNetLaw" (20 : Nat) ({ cls := "ComparatorNetModel", name := "<init>", desc := "(I)V" } : Jvm.MethodName)) ∈ lw_all := lw_g (lw_at lw_m1 149 rfl) rfl
theorem q199 : (Jvm.Cond.methodLink "ComparatorNetLaw" (25 : Nat) ({ cls := "ComparatorNetModel", name := "add", desc := "(II)I" } : Jvm.MethodName)) ∈ lw_all := lw_g (lw_at lw_m1 181 rfl) rfl
theorem q207 : (Jvm.Cond.methodLink "ComparatorNetLaw" (30 : Nat) ({ cls := "ComparatorNetModel", name := "drop", desc := "(I)I" } : Jvm.MethodName)) ∈ lw_all := lw_g (lw_at lw_m1 189 rfl) rfl
theorem q215 : (Jvm.Cond.methodLink "ComparatorNetLaw" (34 : Nat) ({ cls := "ComparatorNetModel", name := "swap", desc := "(I)I" } : Jvm.MethodName)) ∈ lw_all := lw_g (lw_at lw_m1 197 rfl) rfl
theorem q219 : (Jvm.Cond.methodLink "ComparatorNetLaw" (39 : Nat) ({ cls := "ComparatorNetModel", name := "turn", desc := "()I" } : Jvm.MethodName)) ∈ lw_all := lw_g (lw_at lw_m1 201 rfl) rfl
theorem q223 : (Jvm.Cond.methodLink "ComparatorNetLaw" (43 : Nat) ({ cls := "ComparatorNetModel", name := "size", desc := "()I" } : Jvm.MethodName)) ∈ lw_all := lw_g (lw_at lw_m1 205 rfl) rfl
theorem q227 : (Jvm.Cond.methodLink "ComparatorNetLaw" (47 : Nat) ({ cls := "ComparatorNetModel", name := "input", desc := "(II)I" } : Jvm.MethodName)) ∈ lw_all := lw_g (lw_at lw_m1 209 rfl) rfl
theorem q231 : (Jvm.Cond.methodLink "ComparatorNetLaw" (51 : Nat) ({ cls := "ComparatorNetModel", name := "output", desc := "(I)I" } : Jvm.MethodName)) ∈ lw_all := lw_g (lw_at lw_m1 213 rfl) rfl
theorem q239 : (Jvm.Cond.methodLink "ComparatorNetLaw" (55 : Nat) ({ cls := "ComparatorNetModel", name := "exchanges", desc := "()I" } : Jvm.MethodName)) ∈ lw_all := lw_g (lw_at lw_m1 221 rfl) rfl
theorem q243 : (Jvm.Cond.methodLink "ComparatorNetLaw" (59 : Nat) ({ cls := "ComparatorNetModel", name := "sorts", desc := "()I" } : Jvm.MethodName)) ∈ lw_all := lw_g (lw_at lw_m1 225 rfl) rfl
theorem q271 : (Jvm.Cond.methodLink "ComparatorNetLaw" (63 : Nat) ({ cls := "ComparatorNetModel", name := "sorted", desc := "()I" } : Jvm.MethodName)) ∈ lw_all := lw_g (lw_at lw_m2 13 rfl) rfl
theorem q272 : (Jvm.Cond.methodLink "ComparatorNetLaw" (67 : Nat) ({ cls := "ComparatorNetModel", name := "ranks", desc := "(II)I" } : Jvm.MethodName)) ∈ lw_all := lw_g (lw_at lw_m2 14 rfl) rfl
theorem q276 : (Jvm.Cond.methodLink "ComparatorNetLaw" (71 : Nat) ({ cls := "ComparatorNetModel", name := "works", desc := "(I)I" } : Jvm.MethodName)) ∈ lw_all := lw_g (lw_at lw_m2 18 rfl) rfl
theorem q280 : (Jvm.Cond.methodLink "ComparatorNetLaw" (75 : Nat) ({ cls := "ComparatorNetModel", name := "below", desc := "(II)I" } : Jvm.MethodName)) ∈ lw_all := lw_g (lw_at lw_m2 22 rfl) rfl
theorem q284 : (Jvm.Cond.methodLink "ComparatorNetLaw" (79 : Nat) ({ cls := "ComparatorNetModel", name := "idle", desc := "()I" } : Jvm.MethodName)) ∈ lw_all := lw_g (lw_at lw_m2 26 rfl) rfl
theorem q292 : (Jvm.Cond.methodLink "ComparatorNetLaw" (83 : Nat) ({ cls := "ComparatorNetModel", name := "rounds", desc := "()I" } : Jvm.MethodName)) ∈ lw_all := lw_g (lw_at lw_m2 34 rfl) rfl
/-! the law's own entry -/
abbrev cL_law : ByteArray := code
theorem dL_law_0 : decode cL_law 0 = .ok (.new 7, 3) := by decide +kernel
theorem dL_law_3 : decode cL_law 3 = .ok (.dup, 1) := by decide +kernel
theorem dL_law_4 : decode cL_law 4 = .ok (.aload_n 0, 1) := by decide +kernel
theorem dL_law_5 : decode cL_law 5 = .ok (.iconst 0, 1) := by decide +kernel
theorem dL_law_6 : decode cL_law 6 = .ok (.invokestatic 9, 3) := by decide +kernel
theorem dL_law_9 : decode cL_law 9 = .ok (.invokespecial 15, 3) := by decide +kernel
theorem dL_law_12 : decode cL_law 12 = .ok (.astore_n 1, 1) := by decide +kernel
theorem dL_law_13 : decode cL_law 13 = .ok (.new 18, 3) := by decide +kernel
theorem dL_law_16 : decode cL_law 16 = .ok (.dup, 1) := by decide +kernel
theorem dL_law_17 : decode cL_law 17 = .ok (.aload_n 0, 1) := by decide +kernel
theorem dL_law_18 : decode cL_law 18 = .ok (.iconst 0, 1) := by decide +kernel
theorem dL_law_19 : decode cL_law 19 = .ok (.invokestatic 9, 3) := by decide +kernel
theorem dL_law_22 : decode cL_law 22 = .ok (.invokespecial 20, 3) := by decide +kernel
theorem dL_law_25 : decode cL_law 25 = .ok (.astore_n 2, 1) := by decide +kernel
theorem dL_law_26 : decode cL_law 26 = .ok (.iconst 1, 1) := by decide +kernel
theorem dL_law_27 : decode cL_law 27 = .ok (.istore_n 3, 1) := by decide +kernel
theorem dL_law_28 : decode cL_law 28 = .ok (.iload_n 3, 1) := by decide +kernel
theorem dL_law_29 : decode cL_law 29 = .ok (.aload_n 0, 1) := by decide +kernel
theorem dL_law_30 : decode cL_law 30 = .ok (.arraylength, 1) := by decide +kernel
theorem dL_law_31 : decode cL_law 31 = .ok (.iconst 3, 1) := by decide +kernel
theorem dL_law_32 : decode cL_law 32 = .ok (.isub, 1) := by decide +kernel
theorem dL_law_33 : decode cL_law 33 = .ok (.if_icmp .gt 404, 3) := by decide +kernel
theorem dL_law_36 : decode cL_law 36 = .ok (.aload_n 0, 1) := by decide +kernel
theorem dL_law_37 : decode cL_law 37 = .ok (.iload_n 3, 1) := by decide +kernel
theorem dL_law_38 : decode cL_law 38 = .ok (.iaload, 1) := by decide +kernel
theorem dL_law_39 : decode cL_law 39 = .ok (.bipush 15, 2) := by decide +kernel
theorem dL_law_41 : decode cL_law 41 = .ok (.iand, 1) := by decide +kernel
theorem dL_law_42 : decode cL_law 42 = .ok (.tableswitch 389 0 14 #[74, 107, 130, 153, 166, 179, 212, 235, 248, 261, 274, 307, 330, 363, 376], 74) := by decide +kernel
theorem dL_law_116 : decode cL_law 116 = .ok (.aload_n 1, 1) := by decide +kernel
theorem dL_law_117 : decode cL_law 117 = .ok (.aload_n 0, 1) := by decide +kernel
theorem dL_law_118 : decode cL_law 118 = .ok (.iload_n 3, 1) := by decide +kernel
theorem dL_law_119 : decode cL_law 119 = .ok (.iconst 1, 1) := by decide +kernel
theorem dL_law_120 : decode cL_law 120 = .ok (.iadd, 1) := by decide +kernel
theorem dL_law_121 : decode cL_law 121 = .ok (.iaload, 1) := by decide +kernel
theorem dL_law_122 : decode cL_law 122 = .ok (.aload_n 0, 1) := by decide +kernel
theorem dL_law_123 : decode cL_law 123 = .ok (.iload_n 3, 1) := by decide +kernel
theorem dL_law_124 : decode cL_law 124 = .ok (.iconst 2, 1) := by decide +kernel
theorem dL_law_125 : decode cL_law 125 = .ok (.iadd, 1) := by decide +kernel
theorem dL_law_126 : decode cL_law 126 = .ok (.iaload, 1) := by decide +kernel
theorem dL_law_127 : decode cL_law 127 = .ok (.invokevirtual 21, 3) := by decide +kernel
theorem dL_law_130 : decode cL_law 130 = .ok (.aload_n 2, 1) := by decide +kernel
theorem dL_law_131 : decode cL_law 131 = .ok (.aload_n 0, 1) := by decide +kernel
theorem dL_law_132 : decode cL_law 132 = .ok (.iload_n 3, 1) := by decide +kernel
theorem dL_law_133 : decode cL_law 133 = .ok (.iconst 1, 1) := by decide +kernel
theorem dL_law_134 : decode cL_law 134 = .ok (.iadd, 1) := by decide +kernel
theorem dL_law_135 : decode cL_law 135 = .ok (.iaload, 1) := by decide +kernel
theorem dL_law_136 : decode cL_law 136 = .ok (.aload_n 0, 1) := by decide +kernel
theorem dL_law_137 : decode cL_law 137 = .ok (.iload_n 3, 1) := by decide +kernel
theorem dL_law_138 : decode cL_law 138 = .ok (.iconst 2, 1) := by decide +kernel
theorem dL_law_139 : decode cL_law 139 = .ok (.iadd, 1) := by decide +kernel
theorem dL_law_140 : decode cL_law 140 = .ok (.iaload, 1) := by decide +kernel
theorem dL_law_141 : decode cL_law 141 = .ok (.invokevirtual 25, 3) := by decide +kernel
theorem dL_law_144 : decode cL_law 144 = .ok (.if_icmp .eq 287, 3) := by decide +kernel
theorem dL_law_147 : decode cL_law 147 = .ok (.iconst 0, 1) := by decide +kernel
theorem dL_law_148 : decode cL_law 148 = .ok (.ireturn, 1) := by decide +kernel
theorem dL_law_149 : decode cL_law 149 = .ok (.aload_n 1, 1) := by decide +kernel
theorem dL_law_150 : decode cL_law 150 = .ok (.aload_n 0, 1) := by decide +kernel
theorem dL_law_151 : decode cL_law 151 = .ok (.iload_n 3, 1) := by decide +kernel
theorem dL_law_152 : decode cL_law 152 = .ok (.iconst 1, 1) := by decide +kernel
theorem dL_law_153 : decode cL_law 153 = .ok (.iadd, 1) := by decide +kernel
theorem dL_law_154 : decode cL_law 154 = .ok (.iaload, 1) := by decide +kernel
theorem dL_law_155 : decode cL_law 155 = .ok (.invokevirtual 26, 3) := by decide +kernel
theorem dL_law_158 : decode cL_law 158 = .ok (.aload_n 2, 1) := by decide +kernel
theorem dL_law_159 : decode cL_law 159 = .ok (.aload_n 0, 1) := by decide +kernel
theorem dL_law_160 : decode cL_law 160 = .ok (.iload_n 3, 1) := by decide +kernel
theorem dL_law_161 : decode cL_law 161 = .ok (.iconst 1, 1) := by decide +kernel
theorem dL_law_162 : decode cL_law 162 = .ok (.iadd, 1) := by decide +kernel
theorem dL_law_163 : decode cL_law 163 = .ok (.iaload, 1) := by decide +kernel
theorem dL_law_164 : decode cL_law 164 = .ok (.invokevirtual 30, 3) := by decide +kernel
theorem dL_law_167 : decode cL_law 167 = .ok (.if_icmp .eq 264, 3) := by decide +kernel
theorem dL_law_170 : decode cL_law 170 = .ok (.iconst 0, 1) := by decide +kernel
theorem dL_law_171 : decode cL_law 171 = .ok (.ireturn, 1) := by decide +kernel
theorem dL_law_172 : decode cL_law 172 = .ok (.aload_n 1, 1) := by decide +kernel
theorem dL_law_173 : decode cL_law 173 = .ok (.aload_n 0, 1) := by decide +kernel
theorem dL_law_174 : decode cL_law 174 = .ok (.iload_n 3, 1) := by decide +kernel
theorem dL_law_175 : decode cL_law 175 = .ok (.iconst 1, 1) := by decide +kernel
theorem dL_law_176 : decode cL_law 176 = .ok (.iadd, 1) := by decide +kernel
theorem dL_law_177 : decode cL_law 177 = .ok (.iaload, 1) := by decide +kernel
theorem dL_law_178 : decode cL_law 178 = .ok (.invokevirtual 31, 3) := by decide +kernel
theorem dL_law_181 : decode cL_law 181 = .ok (.aload_n 2, 1) := by decide +kernel
theorem dL_law_182 : decode cL_law 182 = .ok (.aload_n 0, 1) := by decide +kernel
theorem dL_law_183 : decode cL_law 183 = .ok (.iload_n 3, 1) := by decide +kernel
theorem dL_law_184 : decode cL_law 184 = .ok (.iconst 1, 1) := by decide +kernel
theorem dL_law_185 : decode cL_law 185 = .ok (.iadd, 1) := by decide +kernel
theorem dL_law_186 : decode cL_law 186 = .ok (.iaload, 1) := by decide +kernel
theorem dL_law_187 : decode cL_law 187 = .ok (.invokevirtual 34, 3) := by decide +kernel
theorem dL_law_190 : decode cL_law 190 = .ok (.if_icmp .eq 241, 3) := by decide +kernel
theorem dL_law_193 : decode cL_law 193 = .ok (.iconst 0, 1) := by decide +kernel
theorem dL_law_194 : decode cL_law 194 = .ok (.ireturn, 1) := by decide +kernel
theorem dL_law_195 : decode cL_law 195 = .ok (.aload_n 1, 1) := by decide +kernel
theorem dL_law_196 : decode cL_law 196 = .ok (.invokevirtual 35, 3) := by decide +kernel
theorem dL_law_199 : decode cL_law 199 = .ok (.aload_n 2, 1) := by decide +kernel
theorem dL_law_200 : decode cL_law 200 = .ok (.invokevirtual 39, 3) := by decide +kernel
theorem dL_law_203 : decode cL_law 203 = .ok (.if_icmp .eq 228, 3) := by decide +kernel
theorem dL_law_206 : decode cL_law 206 = .ok (.iconst 0, 1) := by decide +kernel
theorem dL_law_207 : decode cL_law 207 = .ok (.ireturn, 1) := by decide +kernel
theorem dL_law_208 : decode cL_law 208 = .ok (.aload_n 1, 1) := by decide +kernel
theorem dL_law_209 : decode cL_law 209 = .ok (.invokevirtual 40, 3) := by decide +kernel
theorem dL_law_212 : decode cL_law 212 = .ok (.aload_n 2, 1) := by decide +kernel
theorem dL_law_213 : decode cL_law 213 = .ok (.invokevirtual 43, 3) := by decide +kernel
theorem dL_law_216 : decode cL_law 216 = .ok (.if_icmp .eq 215, 3) := by decide +kernel
theorem dL_law_219 : decode cL_law 219 = .ok (.iconst 0, 1) := by decide +kernel
theorem dL_law_220 : decode cL_law 220 = .ok (.ireturn, 1) := by decide +kernel
theorem dL_law_221 : decode cL_law 221 = .ok (.aload_n 1, 1) := by decide +kernel
theorem dL_law_222 : decode cL_law 222 = .ok (.aload_n 0, 1) := by decide +kernel
theorem dL_law_223 : decode cL_law 223 = .ok (.iload_n 3, 1) := by decide +kernel
theorem dL_law_224 : decode cL_law 224 = .ok (.iconst 1, 1) := by decide +kernel
theorem dL_law_225 : decode cL_law 225 = .ok (.iadd, 1) := by decide +kernel
theorem dL_law_226 : decode cL_law 226 = .ok (.iaload, 1) := by decide +kernel
theorem dL_law_227 : decode cL_law 227 = .ok (.aload_n 0, 1) := by decide +kernel
theorem dL_law_228 : decode cL_law 228 = .ok (.iload_n 3, 1) := by decide +kernel
theorem dL_law_229 : decode cL_law 229 = .ok (.iconst 2, 1) := by decide +kernel
theorem dL_law_230 : decode cL_law 230 = .ok (.iadd, 1) := by decide +kernel
theorem dL_law_231 : decode cL_law 231 = .ok (.iaload, 1) := by decide +kernel
theorem dL_law_232 : decode cL_law 232 = .ok (.invokevirtual 44, 3) := by decide +kernel
theorem dL_law_235 : decode cL_law 235 = .ok (.aload_n 2, 1) := by decide +kernel
theorem dL_law_236 : decode cL_law 236 = .ok (.aload_n 0, 1) := by decide +kernel
theorem dL_law_237 : decode cL_law 237 = .ok (.iload_n 3, 1) := by decide +kernel
theorem dL_law_238 : decode cL_law 238 = .ok (.iconst 1, 1) := by decide +kernel
theorem dL_law_239 : decode cL_law 239 = .ok (.iadd, 1) := by decide +kernel
theorem dL_law_240 : decode cL_law 240 = .ok (.iaload, 1) := by decide +kernel
theorem dL_law_241 : decode cL_law 241 = .ok (.aload_n 0, 1) := by decide +kernel
theorem dL_law_242 : decode cL_law 242 = .ok (.iload_n 3, 1) := by decide +kernel
theorem dL_law_243 : decode cL_law 243 = .ok (.iconst 2, 1) := by decide +kernel
theorem dL_law_244 : decode cL_law 244 = .ok (.iadd, 1) := by decide +kernel
theorem dL_law_245 : decode cL_law 245 = .ok (.iaload, 1) := by decide +kernel
theorem dL_law_246 : decode cL_law 246 = .ok (.invokevirtual 47, 3) := by decide +kernel
theorem dL_law_249 : decode cL_law 249 = .ok (.if_icmp .eq 182, 3) := by decide +kernel
theorem dL_law_252 : decode cL_law 252 = .ok (.iconst 0, 1) := by decide +kernel
theorem dL_law_253 : decode cL_law 253 = .ok (.ireturn, 1) := by decide +kernel
theorem dL_law_254 : decode cL_law 254 = .ok (.aload_n 1, 1) := by decide +kernel
theorem dL_law_255 : decode cL_law 255 = .ok (.aload_n 0, 1) := by decide +kernel
theorem dL_law_256 : decode cL_law 256 = .ok (.iload_n 3, 1) := by decide +kernel
theorem dL_law_257 : decode cL_law 257 = .ok (.iconst 1, 1) := by decide +kernel
theorem dL_law_258 : decode cL_law 258 = .ok (.iadd, 1) := by decide +kernel
theorem dL_law_259 : decode cL_law 259 = .ok (.iaload, 1) := by decide +kernel
theorem dL_law_260 : decode cL_law 260 = .ok (.invokevirtual 48, 3) := by decide +kernel
theorem dL_law_263 : decode cL_law 263 = .ok (.aload_n 2, 1) := by decide +kernel
theorem dL_law_264 : decode cL_law 264 = .ok (.aload_n 0, 1) := by decide +kernel
theorem dL_law_265 : decode cL_law 265 = .ok (.iload_n 3, 1) := by decide +kernel
theorem dL_law_266 : decode cL_law 266 = .ok (.iconst 1, 1) := by decide +kernel
theorem dL_law_267 : decode cL_law 267 = .ok (.iadd, 1) := by decide +kernel
theorem dL_law_268 : decode cL_law 268 = .ok (.iaload, 1) := by decide +kernel
theorem dL_law_269 : decode cL_law 269 = .ok (.invokevirtual 51, 3) := by decide +kernel
theorem dL_law_272 : decode cL_law 272 = .ok (.if_icmp .eq 159, 3) := by decide +kernel
theorem dL_law_275 : decode cL_law 275 = .ok (.iconst 0, 1) := by decide +kernel
theorem dL_law_276 : decode cL_law 276 = .ok (.ireturn, 1) := by decide +kernel
theorem dL_law_277 : decode cL_law 277 = .ok (.aload_n 1, 1) := by decide +kernel
theorem dL_law_278 : decode cL_law 278 = .ok (.invokevirtual 52, 3) := by decide +kernel
theorem dL_law_281 : decode cL_law 281 = .ok (.aload_n 2, 1) := by decide +kernel
theorem dL_law_282 : decode cL_law 282 = .ok (.invokevirtual 55, 3) := by decide +kernel
theorem dL_law_285 : decode cL_law 285 = .ok (.if_icmp .eq 146, 3) := by decide +kernel
theorem dL_law_288 : decode cL_law 288 = .ok (.iconst 0, 1) := by decide +kernel
theorem dL_law_289 : decode cL_law 289 = .ok (.ireturn, 1) := by decide +kernel
theorem dL_law_290 : decode cL_law 290 = .ok (.aload_n 1, 1) := by decide +kernel
theorem dL_law_291 : decode cL_law 291 = .ok (.invokevirtual 56, 3) := by decide +kernel
theorem dL_law_294 : decode cL_law 294 = .ok (.aload_n 2, 1) := by decide +kernel
theorem dL_law_295 : decode cL_law 295 = .ok (.invokevirtual 59, 3) := by decide +kernel
theorem dL_law_298 : decode cL_law 298 = .ok (.if_icmp .eq 133, 3) := by decide +kernel
theorem dL_law_301 : decode cL_law 301 = .ok (.iconst 0, 1) := by decide +kernel
theorem dL_law_302 : decode cL_law 302 = .ok (.ireturn, 1) := by decide +kernel
theorem dL_law_303 : decode cL_law 303 = .ok (.aload_n 1, 1) := by decide +kernel
theorem dL_law_304 : decode cL_law 304 = .ok (.invokevirtual 60, 3) := by decide +kernel
theorem dL_law_307 : decode cL_law 307 = .ok (.aload_n 2, 1) := by decide +kernel
theorem dL_law_308 : decode cL_law 308 = .ok (.invokevirtual 63, 3) := by decide +kernel
theorem dL_law_311 : decode cL_law 311 = .ok (.if_icmp .eq 120, 3) := by decide +kernel
theorem dL_law_314 : decode cL_law 314 = .ok (.iconst 0, 1) := by decide +kernel
theorem dL_law_315 : decode cL_law 315 = .ok (.ireturn, 1) := by decide +kernel
theorem dL_law_316 : decode cL_law 316 = .ok (.aload_n 1, 1) := by decide +kernel
theorem dL_law_317 : decode cL_law 317 = .ok (.aload_n 0, 1) := by decide +kernel
theorem dL_law_318 : decode cL_law 318 = .ok (.iload_n 3, 1) := by decide +kernel
theorem dL_law_319 : decode cL_law 319 = .ok (.iconst 1, 1) := by decide +kernel
theorem dL_law_320 : decode cL_law 320 = .ok (.iadd, 1) := by decide +kernel
theorem dL_law_321 : decode cL_law 321 = .ok (.iaload, 1) := by decide +kernel
theorem dL_law_322 : decode cL_law 322 = .ok (.aload_n 0, 1) := by decide +kernel
theorem dL_law_323 : decode cL_law 323 = .ok (.iload_n 3, 1) := by decide +kernel
theorem dL_law_324 : decode cL_law 324 = .ok (.iconst 2, 1) := by decide +kernel
theorem dL_law_325 : decode cL_law 325 = .ok (.iadd, 1) := by decide +kernel
theorem dL_law_326 : decode cL_law 326 = .ok (.iaload, 1) := by decide +kernel
theorem dL_law_327 : decode cL_law 327 = .ok (.invokevirtual 64, 3) := by decide +kernel
theorem dL_law_330 : decode cL_law 330 = .ok (.aload_n 2, 1) := by decide +kernel
theorem dL_law_331 : decode cL_law 331 = .ok (.aload_n 0, 1) := by decide +kernel
theorem dL_law_332 : decode cL_law 332 = .ok (.iload_n 3, 1) := by decide +kernel
theorem dL_law_333 : decode cL_law 333 = .ok (.iconst 1, 1) := by decide +kernel
theorem dL_law_334 : decode cL_law 334 = .ok (.iadd, 1) := by decide +kernel
theorem dL_law_335 : decode cL_law 335 = .ok (.iaload, 1) := by decide +kernel
theorem dL_law_336 : decode cL_law 336 = .ok (.aload_n 0, 1) := by decide +kernel
theorem dL_law_337 : decode cL_law 337 = .ok (.iload_n 3, 1) := by decide +kernel
theorem dL_law_338 : decode cL_law 338 = .ok (.iconst 2, 1) := by decide +kernel
theorem dL_law_339 : decode cL_law 339 = .ok (.iadd, 1) := by decide +kernel
theorem dL_law_340 : decode cL_law 340 = .ok (.iaload, 1) := by decide +kernel
theorem dL_law_341 : decode cL_law 341 = .ok (.invokevirtual 67, 3) := by decide +kernel
theorem dL_law_344 : decode cL_law 344 = .ok (.if_icmp .eq 87, 3) := by decide +kernel
theorem dL_law_347 : decode cL_law 347 = .ok (.iconst 0, 1) := by decide +kernel
theorem dL_law_348 : decode cL_law 348 = .ok (.ireturn, 1) := by decide +kernel
theorem dL_law_349 : decode cL_law 349 = .ok (.aload_n 1, 1) := by decide +kernel
theorem dL_law_350 : decode cL_law 350 = .ok (.aload_n 0, 1) := by decide +kernel
theorem dL_law_351 : decode cL_law 351 = .ok (.iload_n 3, 1) := by decide +kernel
theorem dL_law_352 : decode cL_law 352 = .ok (.iconst 1, 1) := by decide +kernel
theorem dL_law_353 : decode cL_law 353 = .ok (.iadd, 1) := by decide +kernel
theorem dL_law_354 : decode cL_law 354 = .ok (.iaload, 1) := by decide +kernel
theorem dL_law_355 : decode cL_law 355 = .ok (.invokevirtual 68, 3) := by decide +kernel
theorem dL_law_358 : decode cL_law 358 = .ok (.aload_n 2, 1) := by decide +kernel
theorem dL_law_359 : decode cL_law 359 = .ok (.aload_n 0, 1) := by decide +kernel
theorem dL_law_360 : decode cL_law 360 = .ok (.iload_n 3, 1) := by decide +kernel
theorem dL_law_361 : decode cL_law 361 = .ok (.iconst 1, 1) := by decide +kernel
theorem dL_law_362 : decode cL_law 362 = .ok (.iadd, 1) := by decide +kernel
theorem dL_law_363 : decode cL_law 363 = .ok (.iaload, 1) := by decide +kernel
theorem dL_law_364 : decode cL_law 364 = .ok (.invokevirtual 71, 3) := by decide +kernel
theorem dL_law_367 : decode cL_law 367 = .ok (.if_icmp .eq 64, 3) := by decide +kernel
theorem dL_law_370 : decode cL_law 370 = .ok (.iconst 0, 1) := by decide +kernel
theorem dL_law_371 : decode cL_law 371 = .ok (.ireturn, 1) := by decide +kernel
theorem dL_law_372 : decode cL_law 372 = .ok (.aload_n 1, 1) := by decide +kernel
theorem dL_law_373 : decode cL_law 373 = .ok (.aload_n 0, 1) := by decide +kernel
theorem dL_law_374 : decode cL_law 374 = .ok (.iload_n 3, 1) := by decide +kernel
theorem dL_law_375 : decode cL_law 375 = .ok (.iconst 1, 1) := by decide +kernel
theorem dL_law_376 : decode cL_law 376 = .ok (.iadd, 1) := by decide +kernel
theorem dL_law_377 : decode cL_law 377 = .ok (.iaload, 1) := by decide +kernel
theorem dL_law_378 : decode cL_law 378 = .ok (.aload_n 0, 1) := by decide +kernel
theorem dL_law_379 : decode cL_law 379 = .ok (.iload_n 3, 1) := by decide +kernel
theorem dL_law_380 : decode cL_law 380 = .ok (.iconst 2, 1) := by decide +kernel
theorem dL_law_381 : decode cL_law 381 = .ok (.iadd, 1) := by decide +kernel
theorem dL_law_382 : decode cL_law 382 = .ok (.iaload, 1) := by decide +kernel
theorem dL_law_383 : decode cL_law 383 = .ok (.invokevirtual 72, 3) := by decide +kernel
theorem dL_law_386 : decode cL_law 386 = .ok (.aload_n 2, 1) := by decide +kernel
theorem dL_law_387 : decode cL_law 387 = .ok (.aload_n 0, 1) := by decide +kernel
theorem dL_law_388 : decode cL_law 388 = .ok (.iload_n 3, 1) := by decide +kernel
theorem dL_law_389 : decode cL_law 389 = .ok (.iconst 1, 1) := by decide +kernel
theorem dL_law_390 : decode cL_law 390 = .ok (.iadd, 1) := by decide +kernel
theorem dL_law_391 : decode cL_law 391 = .ok (.iaload, 1) := by decide +kernel
theorem dL_law_392 : decode cL_law 392 = .ok (.aload_n 0, 1) := by decide +kernel
theorem dL_law_393 : decode cL_law 393 = .ok (.iload_n 3, 1) := by decide +kernel
theorem dL_law_394 : decode cL_law 394 = .ok (.iconst 2, 1) := by decide +kernel
theorem dL_law_395 : decode cL_law 395 = .ok (.iadd, 1) := by decide +kernel
theorem dL_law_396 : decode cL_law 396 = .ok (.iaload, 1) := by decide +kernel
theorem dL_law_397 : decode cL_law 397 = .ok (.invokevirtual 75, 3) := by decide +kernel
theorem dL_law_400 : decode cL_law 400 = .ok (.if_icmp .eq 31, 3) := by decide +kernel
theorem dL_law_403 : decode cL_law 403 = .ok (.iconst 0, 1) := by decide +kernel
theorem dL_law_404 : decode cL_law 404 = .ok (.ireturn, 1) := by decide +kernel
theorem dL_law_405 : decode cL_law 405 = .ok (.aload_n 1, 1) := by decide +kernel
theorem dL_law_406 : decode cL_law 406 = .ok (.invokevirtual 76, 3) := by decide +kernel
theorem dL_law_409 : decode cL_law 409 = .ok (.aload_n 2, 1) := by decide +kernel
theorem dL_law_410 : decode cL_law 410 = .ok (.invokevirtual 79, 3) := by decide +kernel
theorem dL_law_413 : decode cL_law 413 = .ok (.if_icmp .eq 18, 3) := by decide +kernel
theorem dL_law_416 : decode cL_law 416 = .ok (.iconst 0, 1) := by decide +kernel
theorem dL_law_417 : decode cL_law 417 = .ok (.ireturn, 1) := by decide +kernel
theorem dL_law_418 : decode cL_law 418 = .ok (.aload_n 1, 1) := by decide +kernel
theorem dL_law_419 : decode cL_law 419 = .ok (.invokevirtual 80, 3) := by decide +kernel
theorem dL_law_422 : decode cL_law 422 = .ok (.aload_n 2, 1) := by decide +kernel
theorem dL_law_423 : decode cL_law 423 = .ok (.invokevirtual 83, 3) := by decide +kernel
theorem dL_law_426 : decode cL_law 426 = .ok (.if_icmp .eq 5, 3) := by decide +kernel
theorem dL_law_429 : decode cL_law 429 = .ok (.iconst 0, 1) := by decide +kernel
theorem dL_law_430 : decode cL_law 430 = .ok (.ireturn, 1) := by decide +kernel
theorem dL_law_431 : decode cL_law 431 = .ok (.iinc 3 3, 3) := by decide +kernel
theorem dL_law_434 : decode cL_law 434 = .ok (.goto (-406), 3) := by decide +kernel
theorem dL_law_437 : decode cL_law 437 = .ok (.iconst 1, 1) := by decide +kernel
theorem dL_law_438 : decode cL_law 438 = .ok (.ireturn, 1) := by decide +kernel
end
section
/-! a small logic over the kit's rows: gm E nL I lv pc st: the frame at pc, locals lv (from place 0 on), stack st, in a heap of which I holds -/
set_option maxRecDepth 100000
abbrev gE : Type := Program × Launch × Env × Room × State × MethodId × Array Value × List Frame × Method × Code × Nat × Nat × (State → Prop)
def ob_lv : Nat → List Value → List (Nat × Value)
  | _, [] => []
  | i, v :: r => (i, v) :: ob_lv (i + 1) r
theorem ob_lv_get (lv : List Value) : ∀ (j i : Nat), (ob_lv j lv)[i]? = (lv[i]?).map (fun v => (j + i, v)) := by
  induction lv with
  | nil => intro j i; simp [ob_lv]
  | cons v r ih =>
    intro j i
    cases i with
    | zero => simp [ob_lv]
    | succ i =>
      simp only [ob_lv, List.getElem?_cons_succ]
      rw [ih]
      have e : j + 1 + i = j + (i + 1) := by omega
      rw [e]
theorem ob_lv_mem {lv : List Value} {q : Nat × Value} (h : q ∈ ob_lv 0 lv) : lv[q.1]? = some q.2 := by
  obtain ⟨i, hi⟩ := List.getElem?_of_mem h
  rw [ob_lv_get] at hi
  cases e : lv[i]? with
  | none => rw [e] at hi; cases hi
  | some v =>
    rw [e] at hi
    have h1 := Option.some.inj hi
    rw [← h1]
    simpa using e
theorem ob_lv_in {lv : List Value} {i : Nat} {v : Value} (h : lv[i]? = some v) : (i, v) ∈ ob_lv 0 lv := by
  apply List.mem_of_getElem? (i := i)
  rw [ob_lv_get, h]
  simp
theorem ob_lv_at {ls : Array Slot} {nL : Nat} {lv : List Value} (h : lv_has ls nL (ob_lv 0 lv)) {i : Nat} {v : Value} (hk : lv[i]? = some v) : ls[i]? = some (.val v) := h.2.2 (i, v) (ob_lv_in hk)
theorem ob_set_get {lv : List Value} {i : Nat} (v : Value) (hi : i ≤ lv.length) (k : Nat) : (lv.take i ++ v :: lv.drop (i + 1))[k]? = if k = i then some v else lv[k]? := by
  have hl : (lv.take i).length = i := by rw [List.length_take]; omega
  by_cases h : k < i
  · rw [List.getElem?_append_left (by omega), if_neg (by omega), List.getElem?_take_of_lt h]
  · rw [List.getElem?_append_right (by omega), hl]
    by_cases h2 : k = i
    · subst h2; simp
    · rw [if_neg h2]
      obtain ⟨d, rfl⟩ : ∃ d, k = i + 1 + d := ⟨k - (i + 1), by omega⟩
      have e : i + 1 + d - i = d + 1 := by omega
      rw [e, List.getElem?_cons_succ, List.getElem?_drop]
theorem ob_has_set {ls : Array Slot} {nL : Nat} {lv : List Value} {i : Nat} {v : Value} (hi : i ≤ lv.length) (hc : lv.all (fun v => v.category == 1) = true) (h : lv_has ls nL ((i, v) :: (ob_lv 0 lv).filter (fun q => !(q.1 == i) && !(q.1 + 1 == i && q.2.category == 2)))) : lv_has ls nL (ob_lv 0 (lv.take i ++ v :: lv.drop (i + 1))) := by
  refine ⟨h.1, h.2.1, fun q hq => ?_⟩
  have h1 := ob_lv_mem hq
  rw [ob_set_get v hi] at h1
  by_cases hk : q.1 = i
  · rw [if_pos hk] at h1
    have h2 := Option.some.inj h1
    have h3 := h.2.2 (i, v) List.mem_cons_self
    rw [hk, ← h2]
    exact h3
  · rw [if_neg hk] at h1
    refine h.2.2 q (List.mem_cons_of_mem _ (List.mem_filter.mpr ⟨ob_lv_in h1, ?_⟩))
    have h3 := List.all_eq_true.mp hc q.2 (List.mem_of_getElem? h1)
    have h4 : q.2.category = 1 := by simpa using h3
    simp [hk, h4]
theorem ob_has_take {ls : Array Slot} {nL : Nat} {lv : List Value} (n : Nat) (h : lv_has ls nL (ob_lv 0 lv)) : lv_has ls nL (ob_lv 0 (lv.take n)) := by
  refine ⟨h.1, h.2.1, fun q hq => ?_⟩
  have h1 := ob_lv_mem hq
  rw [List.getElem?_take] at h1
  by_cases hn : q.1 < n
  · rw [if_pos hn] at h1; exact h.2.2 q (ob_lv_in h1)
  · rw [if_neg hn] at h1; cases h1
def ob_sok (nL i : Nat) (lv : List Value) : Bool := decide (i < nL) && (decide (i ≤ lv.length) && lv.all (fun v => v.category == 1))
theorem ob_sok_spec {nL i : Nat} {lv : List Value} (h : ob_sok nL i lv = true) : i < nL ∧ i ≤ lv.length ∧ lv.all (fun v => v.category == 1) = true := by
  unfold ob_sok at h
  simp only [Bool.and_eq_true, decide_eq_true_eq] at h
  exact h
def gm (E : gE) (nL : Nat) (I : Heap → List Loc → Prop) (lv : List Value) (pc : Nat) (st : List Value) : Prop :=
  match E with
  | (p, l, e, R, s, m, args, below, meth, c, mc, ms, Q) => ∀ (H : Heap) (locs : List Loc) (ls : Array Slot), I H locs → lv_has ls nL (ob_lv 0 lv) → W p l e R s m args below meth c H locs mc ms Q (F0 m pc ls st)
def gG (E : gE) (cc : ByteArray) (nL : Nat) : Prop :=
  match E with
  | (p, _, _, _, _, _, _, _, _, c, _, _, _) => p.tables.exec = Jvm.exec ∧ c.code = cc ∧ c.maxLocals = nL
section GM
variable {E : gE} {nL : Nat} {I : Heap → List Loc → Prop} {lv : List Value} {pc : Nat} {st : List Value} {cc : ByteArray}
theorem gm_take {lv' : List Value} (n : Nat) (hl : lv.take n = lv') (k : gm E nL I lv' pc st) : gm E nL I lv pc st := by
  subst hl
  obtain ⟨p, l, e, R, s, m, args, below, meth, c, mc, ms, Q⟩ := E
  exact fun H locs ls hI hl => k H locs ls hI (ob_has_take n hl)
theorem gm_imp {I' : Heap → List Loc → Prop} (h : ∀ H locs, I H locs → I' H locs) (k : gm E nL I' lv pc st) : gm E nL I lv pc st := by
  obtain ⟨p, l, e, R, s, m, args, below, meth, c, mc, ms, Q⟩ := E
  exact fun H locs ls hI hl => k H locs ls (h H locs hI) hl
theorem gm_eqi {x y : Int32} (h : x = y) (k : gm E nL I lv pc (.int y :: st)) : gm E nL I lv pc (.int x :: st) := by rw [h]; exact k
theorem gm_eqi2 {x y : Int32} {v : Value} (h : x = y) (k : gm E nL I lv pc (v :: .int y :: st)) : gm E nL I lv pc (v :: .int x :: st) := by rw [h]; exact k
theorem gm_iconst (G : gG E cc nL) {n : Int} {v : Int32} (d : decode cc pc = .ok (.iconst n, 1)) (hv : Int32.ofInt n = v) (k : gm E nL I lv (pc + 1) (.int v :: st)) : gm E nL I lv pc st := by
  obtain ⟨p, l, e, R, s, m, args, below, meth, c, mc, ms, Q⟩ := E
  obtain ⟨hx, hb, hml⟩ := G
  intro H locs ls hI hl
  exact lv_iconst hx hb d hv (k H locs ls hI hl)
theorem gm_bipush (G : gG E cc nL) {n : Int} {v : Int32} (d : decode cc pc = .ok (.bipush n, 2)) (hv : (Int8.ofInt n).toInt32 = v) (k : gm E nL I lv (pc + 2) (.int v :: st)) : gm E nL I lv pc st := by
  obtain ⟨p, l, e, R, s, m, args, below, meth, c, mc, ms, Q⟩ := E
  obtain ⟨hx, hb, hml⟩ := G
  intro H locs ls hI hl
  exact lv_bipush hx hb d hv (k H locs ls hI hl)
theorem gm_sipush (G : gG E cc nL) {n : Int} {v : Int32} (d : decode cc pc = .ok (.sipush n, 3)) (hv : (Int16.ofInt n).toInt32 = v) (k : gm E nL I lv (pc + 3) (.int v :: st)) : gm E nL I lv pc st := by
  obtain ⟨p, l, e, R, s, m, args, below, meth, c, mc, ms, Q⟩ := E
  obtain ⟨hx, hb, hml⟩ := G
  intro H locs ls hI hl
  exact lv_sipush hx hb d hv (k H locs ls hI hl)
theorem gm_iload_n (G : gG E cc nL) {i : Fin 4} {x : Int32} (d : decode cc pc = .ok (.iload_n i, 1)) (h : lv[(i : Nat)]? = some (.int x)) (k : gm E nL I lv (pc + 1) (.int x :: st)) : gm E nL I lv pc st := by
  obtain ⟨p, l, e, R, s, m, args, below, meth, c, mc, ms, Q⟩ := E
  obtain ⟨hx, hb, hml⟩ := G
  intro H locs ls hI hl
  exact lv_iload_n hx hb d rfl (ob_lv_at hl h) (k H locs ls hI hl)
theorem gm_iload (G : gG E cc nL) {i : Nat} {x : Int32} (d : decode cc pc = .ok (.iload i, 2)) (h : lv[i]? = some (.int x)) (k : gm E nL I lv (pc + 2) (.int x :: st)) : gm E nL I lv pc st := by
  obtain ⟨p, l, e, R, s, m, args, below, meth, c, mc, ms, Q⟩ := E
  obtain ⟨hx, hb, hml⟩ := G
  intro H locs ls hI hl
  exact lv_iload hx hb d (ob_lv_at hl h) (k H locs ls hI hl)
theorem gm_aload_n (G : gG E cc nL) {i : Fin 4} {x : Nat} (d : decode cc pc = .ok (.aload_n i, 1)) (h : lv[(i : Nat)]? = some (.ref x)) (k : gm E nL I lv (pc + 1) (.ref x :: st)) : gm E nL I lv pc st := by
  obtain ⟨p, l, e, R, s, m, args, below, meth, c, mc, ms, Q⟩ := E
  obtain ⟨hx, hb, hml⟩ := G
  intro H locs ls hI hl
  exact lv_aload_n hx hb d rfl (ob_lv_at hl h) (k H locs ls hI hl)
theorem gm_istore_n (G : gG E cc nL) {i : Fin 4} {x : Int32} {lv' : List Value} (d : decode cc pc = .ok (.istore_n i, 1)) (h : ob_sok nL (i : Nat) lv = true) (hv : lv.take (i : Nat) ++ .int x :: lv.drop ((i : Nat) + 1) = lv') (k : gm E nL I lv' (pc + 1) st) : gm E nL I lv pc (.int x :: st) := by
  subst hv
  obtain ⟨p, l, e, R, s, m, args, below, meth, c, mc, ms, Q⟩ := E
  obtain ⟨hx, hb, hml⟩ := G
  intro H locs ls hI hl
  obtain ⟨h1, h2, h3⟩ := ob_sok_spec h
  exact lv_istore_n hx hb d rfl hl h1 rfl (fun ls hl => k H locs ls hI (ob_has_set h2 h3 hl))
theorem gm_istore (G : gG E cc nL) {i : Nat} {x : Int32} {lv' : List Value} (d : decode cc pc = .ok (.istore i, 2)) (h : ob_sok nL i lv = true) (hv : lv.take i ++ .int x :: lv.drop (i + 1) = lv') (k : gm E nL I lv' (pc + 2) st) : gm E nL I lv pc (.int x :: st) := by
  subst hv
  obtain ⟨p, l, e, R, s, m, args, below, meth, c, mc, ms, Q⟩ := E
  obtain ⟨hx, hb, hml⟩ := G
  intro H locs ls hI hl
  obtain ⟨h1, h2, h3⟩ := ob_sok_spec h
  exact lv_istore hx hb d hl h1 rfl (fun ls hl => k H locs ls hI (ob_has_set h2 h3 hl))
theorem gm_astore_n (G : gG E cc nL) {i : Fin 4} {x : Nat} {lv' : List Value} (d : decode cc pc = .ok (.astore_n i, 1)) (h : ob_sok nL (i : Nat) lv = true) (hv : lv.take (i : Nat) ++ .ref x :: lv.drop ((i : Nat) + 1) = lv') (k : gm E nL I lv' (pc + 1) st) : gm E nL I lv pc (.ref x :: st) := by
  subst hv
  obtain ⟨p, l, e, R, s, m, args, below, meth, c, mc, ms, Q⟩ := E
  obtain ⟨hx, hb, hml⟩ := G
  intro H locs ls hI hl
  obtain ⟨h1, h2, h3⟩ := ob_sok_spec h
  exact lv_astore_n hx hb d rfl hl h1 rfl (fun ls hl => k H locs ls hI (ob_has_set h2 h3 hl))
theorem gm_astore (G : gG E cc nL) {i : Nat} {x : Nat} {lv' : List Value} (d : decode cc pc = .ok (.astore i, 2)) (h : ob_sok nL i lv = true) (hv : lv.take i ++ .ref x :: lv.drop (i + 1) = lv') (k : gm E nL I lv' (pc + 2) st) : gm E nL I lv pc (.ref x :: st) := by
  subst hv
  obtain ⟨p, l, e, R, s, m, args, below, meth, c, mc, ms, Q⟩ := E
  obtain ⟨hx, hb, hml⟩ := G
  intro H locs ls hI hl
  obtain ⟨h1, h2, h3⟩ := ob_sok_spec h
  exact lv_astore hx hb d hl h1 rfl (fun ls hl => k H locs ls hI (ob_has_set h2 h3 hl))
theorem gm_iinc (G : gG E cc nL) {i : Nat} {n : Int} {x v : Int32} {lv' : List Value} (d : decode cc pc = .ok (.iinc i n, 3)) (hk : lv[i]? = some (.int x)) (he : x + Int32.ofInt n = v) (h : ob_sok nL i lv = true) (hv : lv.take i ++ .int v :: lv.drop (i + 1) = lv') (k : gm E nL I lv' (pc + 3) st) : gm E nL I lv pc st := by
  subst hv
  obtain ⟨p, l, e, R, s, m, args, below, meth, c, mc, ms, Q⟩ := E
  obtain ⟨hx, hb, hml⟩ := G
  intro H locs ls hI hl
  obtain ⟨h1, h2, h3⟩ := ob_sok_spec h
  exact lv_iinc (v := v) hx hb d hl (k := i) (by rw [ob_lv_get, hk]; simp) he h1 rfl (fun ls hl => k H locs ls hI (ob_has_set h2 h3 hl))
theorem gm_iadd (G : gG E cc nL) {x y v : Int32} (d : decode cc pc = .ok (.iadd, 1)) (hv : x + y = v) (k : gm E nL I lv (pc + 1) (.int v :: st)) : gm E nL I lv pc (.int y :: .int x :: st) := by
  subst hv
  obtain ⟨p, l, e, R, s, m, args, below, meth, c, mc, ms, Q⟩ := E
  obtain ⟨hx, hb, hml⟩ := G
  intro H locs ls hI hl
  exact lv_iadd hx hb d (k H locs ls hI hl)
theorem gm_isub (G : gG E cc nL) {x y v : Int32} (d : decode cc pc = .ok (.isub, 1)) (hv : x - y = v) (k : gm E nL I lv (pc + 1) (.int v :: st)) : gm E nL I lv pc (.int y :: .int x :: st) := by
  subst hv
  obtain ⟨p, l, e, R, s, m, args, below, meth, c, mc, ms, Q⟩ := E
  obtain ⟨hx, hb, hml⟩ := G
  intro H locs ls hI hl
  exact lv_isub hx hb d (k H locs ls hI hl)
theorem gm_imul (G : gG E cc nL) {x y v : Int32} (d : decode cc pc = .ok (.imul, 1)) (hv : x * y = v) (k : gm E nL I lv (pc + 1) (.int v :: st)) : gm E nL I lv pc (.int y :: .int x :: st) := by
  subst hv
  obtain ⟨p, l, e, R, s, m, args, below, meth, c, mc, ms, Q⟩ := E
  obtain ⟨hx, hb, hml⟩ := G
  intro H locs ls hI hl
  exact lv_imul hx hb d (k H locs ls hI hl)
theorem gm_iand (G : gG E cc nL) {x y v : Int32} (d : decode cc pc = .ok (.iand, 1)) (hv : x &&& y = v) (k : gm E nL I lv (pc + 1) (.int v :: st)) : gm E nL I lv pc (.int y :: .int x :: st) := by
  subst hv
  obtain ⟨p, l, e, R, s, m, args, below, meth, c, mc, ms, Q⟩ := E
  obtain ⟨hx, hb, hml⟩ := G
  intro H locs ls hI hl
  exact lv_iand hx hb d (k H locs ls hI hl)
theorem gm_ior (G : gG E cc nL) {x y v : Int32} (d : decode cc pc = .ok (.ior, 1)) (hv : x ||| y = v) (k : gm E nL I lv (pc + 1) (.int v :: st)) : gm E nL I lv pc (.int y :: .int x :: st) := by
  subst hv
  obtain ⟨p, l, e, R, s, m, args, below, meth, c, mc, ms, Q⟩ := E
  obtain ⟨hx, hb, hml⟩ := G
  intro H locs ls hI hl
  exact lv_ior hx hb d (k H locs ls hI hl)
theorem gm_ixor (G : gG E cc nL) {x y v : Int32} (d : decode cc pc = .ok (.ixor, 1)) (hv : x ^^^ y = v) (k : gm E nL I lv (pc + 1) (.int v :: st)) : gm E nL I lv pc (.int y :: .int x :: st) := by
  subst hv
  obtain ⟨p, l, e, R, s, m, args, below, meth, c, mc, ms, Q⟩ := E
  obtain ⟨hx, hb, hml⟩ := G
  intro H locs ls hI hl
  exact lv_ixor hx hb d (k H locs ls hI hl)
theorem gm_ishl (G : gG E cc nL) {x y v : Int32} (d : decode cc pc = .ok (.ishl, 1)) (hv : x <<< (y &&& 31) = v) (k : gm E nL I lv (pc + 1) (.int v :: st)) : gm E nL I lv pc (.int y :: .int x :: st) := by
  subst hv
  obtain ⟨p, l, e, R, s, m, args, below, meth, c, mc, ms, Q⟩ := E
  obtain ⟨hx, hb, hml⟩ := G
  intro H locs ls hI hl
  exact lv_ishl hx hb d (k H locs ls hI hl)
theorem gm_ishr (G : gG E cc nL) {x y v : Int32} (d : decode cc pc = .ok (.ishr, 1)) (hv : x >>> (y &&& 31) = v) (k : gm E nL I lv (pc + 1) (.int v :: st)) : gm E nL I lv pc (.int y :: .int x :: st) := by
  subst hv
  obtain ⟨p, l, e, R, s, m, args, below, meth, c, mc, ms, Q⟩ := E
  obtain ⟨hx, hb, hml⟩ := G
  intro H locs ls hI hl
  exact lv_ishr hx hb d (k H locs ls hI hl)
theorem gm_idiv (G : gG E cc nL) {x y v : Int32} (d : decode cc pc = .ok (.idiv, 1)) (hne : ¬ y = 0) (hv : x / y = v) (k : gm E nL I lv (pc + 1) (.int v :: st)) : gm E nL I lv pc (.int y :: .int x :: st) := by
  subst hv
  obtain ⟨p, l, e, R, s, m, args, below, meth, c, mc, ms, Q⟩ := E
  obtain ⟨hx, hb, hml⟩ := G
  intro H locs ls hI hl
  exact lv_idiv hx hb d hne (k H locs ls hI hl)
theorem gm_irem (G : gG E cc nL) {x y v : Int32} (d : decode cc pc = .ok (.irem, 1)) (hne : ¬ y = 0) (hv : x - x / y * y = v) (k : gm E nL I lv (pc + 1) (.int v :: st)) : gm E nL I lv pc (.int y :: .int x :: st) := by
  subst hv
  obtain ⟨p, l, e, R, s, m, args, below, meth, c, mc, ms, Q⟩ := E
  obtain ⟨hx, hb, hml⟩ := G
  intro H locs ls hI hl
  exact lv_irem hx hb d hne (k H locs ls hI hl)
theorem gm_i2b (G : gG E cc nL) {x v : Int32} (d : decode cc pc = .ok (.i2b, 1)) (hv : x.toInt8.toInt32 = v) (k : gm E nL I lv (pc + 1) (.int v :: st)) : gm E nL I lv pc (.int x :: st) := by
  obtain ⟨p, l, e, R, s, m, args, below, meth, c, mc, ms, Q⟩ := E
  obtain ⟨hx, hb, hml⟩ := G
  intro H locs ls hI hl
  exact lv_i2b hx hb d hv (k H locs ls hI hl)
theorem gm_i2s (G : gG E cc nL) {x v : Int32} (d : decode cc pc = .ok (.i2s, 1)) (hv : x.toInt16.toInt32 = v) (k : gm E nL I lv (pc + 1) (.int v :: st)) : gm E nL I lv pc (.int x :: st) := by
  obtain ⟨p, l, e, R, s, m, args, below, meth, c, mc, ms, Q⟩ := E
  obtain ⟨hx, hb, hml⟩ := G
  intro H locs ls hI hl
  exact lv_i2s hx hb d hv (k H locs ls hI hl)
theorem gm_dup (G : gG E cc nL) {v : Value} (d : decode cc pc = .ok (.dup, 1)) (hc : v.category = 1) (k : gm E nL I lv (pc + 1) (v :: v :: st)) : gm E nL I lv pc (v :: st) := by
  obtain ⟨p, l, e, R, s, m, args, below, meth, c, mc, ms, Q⟩ := E
  obtain ⟨hx, hb, hml⟩ := G
  intro H locs ls hI hl
  exact lv_dup hx hb d hc (k H locs ls hI hl)
theorem gm_pop (G : gG E cc nL) {v : Value} (d : decode cc pc = .ok (.pop, 1)) (hc : v.category = 1) (k : gm E nL I lv (pc + 1) st) : gm E nL I lv pc (v :: st) := by
  obtain ⟨p, l, e, R, s, m, args, below, meth, c, mc, ms, Q⟩ := E
  obtain ⟨hx, hb, hml⟩ := G
  intro H locs ls hI hl
  exact lv_pop hx hb d hc (k H locs ls hI hl)
theorem gm_goto (G : gG E cc nL) {off : Int} (tgt : Nat) (d : decode cc pc = .ok (.goto off, 3)) (ht : (pc : Int) + off = (tgt : Int)) (k : gm E nL I lv tgt st) : gm E nL I lv pc st := by
  obtain ⟨p, l, e, R, s, m, args, below, meth, c, mc, ms, Q⟩ := E
  obtain ⟨hx, hb, hml⟩ := G
  intro H locs ls hI hl
  exact lv_goto hx hb d ht (k H locs ls hI hl)
theorem gm_if_eq (G : gG E cc nL) {x : Int32} {off : Int} (tgt : Nat) (d : decode cc pc = .ok (.ifCond .eq off, 3)) (ht : (pc : Int) + off = (tgt : Int)) (kt : x = 0 → gm E nL I lv tgt st) (kf : ¬ x = 0 → gm E nL I lv (pc + 3) st) : gm E nL I lv pc (.int x :: st) := by
  obtain ⟨p, l, e, R, s, m, args, below, meth, c, mc, ms, Q⟩ := E
  obtain ⟨hx, hb, hml⟩ := G
  intro H locs ls hI hl
  exact lv_if_eq hx hb d ht (fun h => kt h H locs ls hI hl) (fun h => kf h H locs ls hI hl)
theorem gm_icmp_eq (G : gG E cc nL) {x y : Int32} {off : Int} (tgt : Nat) (d : decode cc pc = .ok (.if_icmp .eq off, 3)) (ht : (pc : Int) + off = (tgt : Int)) (kt : x = y → gm E nL I lv tgt st) (kf : ¬ x = y → gm E nL I lv (pc + 3) st) : gm E nL I lv pc (.int y :: .int x :: st) := by
  obtain ⟨p, l, e, R, s, m, args, below, meth, c, mc, ms, Q⟩ := E
  obtain ⟨hx, hb, hml⟩ := G
  intro H locs ls hI hl
  exact lv_icmp_eq hx hb d ht (fun h => kt h H locs ls hI hl) (fun h => kf h H locs ls hI hl)
theorem gm_if_ne (G : gG E cc nL) {x : Int32} {off : Int} (tgt : Nat) (d : decode cc pc = .ok (.ifCond .ne off, 3)) (ht : (pc : Int) + off = (tgt : Int)) (kt : ¬ x = 0 → gm E nL I lv tgt st) (kf : x = 0 → gm E nL I lv (pc + 3) st) : gm E nL I lv pc (.int x :: st) := by
  obtain ⟨p, l, e, R, s, m, args, below, meth, c, mc, ms, Q⟩ := E
  obtain ⟨hx, hb, hml⟩ := G
  intro H locs ls hI hl
  exact lv_if_ne hx hb d ht (fun h => kt h H locs ls hI hl) (fun h => kf h H locs ls hI hl)
theorem gm_icmp_ne (G : gG E cc nL) {x y : Int32} {off : Int} (tgt : Nat) (d : decode cc pc = .ok (.if_icmp .ne off, 3)) (ht : (pc : Int) + off = (tgt : Int)) (kt : ¬ x = y → gm E nL I lv tgt st) (kf : x = y → gm E nL I lv (pc + 3) st) : gm E nL I lv pc (.int y :: .int x :: st) := by
  obtain ⟨p, l, e, R, s, m, args, below, meth, c, mc, ms, Q⟩ := E
  obtain ⟨hx, hb, hml⟩ := G
  intro H locs ls hI hl
  exact lv_icmp_ne hx hb d ht (fun h => kt h H locs ls hI hl) (fun h => kf h H locs ls hI hl)
theorem gm_if_lt (G : gG E cc nL) {x : Int32} {off : Int} (tgt : Nat) (d : decode cc pc = .ok (.ifCond .lt off, 3)) (ht : (pc : Int) + off = (tgt : Int)) (kt : x < 0 → gm E nL I lv tgt st) (kf : ¬ x < 0 → gm E nL I lv (pc + 3) st) : gm E nL I lv pc (.int x :: st) := by
  obtain ⟨p, l, e, R, s, m, args, below, meth, c, mc, ms, Q⟩ := E
  obtain ⟨hx, hb, hml⟩ := G
  intro H locs ls hI hl
  exact lv_if_lt hx hb d ht (fun h => kt h H locs ls hI hl) (fun h => kf h H locs ls hI hl)
theorem gm_icmp_lt (G : gG E cc nL) {x y : Int32} {off : Int} (tgt : Nat) (d : decode cc pc = .ok (.if_icmp .lt off, 3)) (ht : (pc : Int) + off = (tgt : Int)) (kt : x < y → gm E nL I lv tgt st) (kf : ¬ x < y → gm E nL I lv (pc + 3) st) : gm E nL I lv pc (.int y :: .int x :: st) := by
  obtain ⟨p, l, e, R, s, m, args, below, meth, c, mc, ms, Q⟩ := E
  obtain ⟨hx, hb, hml⟩ := G
  intro H locs ls hI hl
  exact lv_icmp_lt hx hb d ht (fun h => kt h H locs ls hI hl) (fun h => kf h H locs ls hI hl)
theorem gm_if_ge (G : gG E cc nL) {x : Int32} {off : Int} (tgt : Nat) (d : decode cc pc = .ok (.ifCond .ge off, 3)) (ht : (pc : Int) + off = (tgt : Int)) (kt : 0 ≤ x → gm E nL I lv tgt st) (kf : ¬ 0 ≤ x → gm E nL I lv (pc + 3) st) : gm E nL I lv pc (.int x :: st) := by
  obtain ⟨p, l, e, R, s, m, args, below, meth, c, mc, ms, Q⟩ := E
  obtain ⟨hx, hb, hml⟩ := G
  intro H locs ls hI hl
  exact lv_if_ge hx hb d ht (fun h => kt h H locs ls hI hl) (fun h => kf h H locs ls hI hl)
theorem gm_icmp_ge (G : gG E cc nL) {x y : Int32} {off : Int} (tgt : Nat) (d : decode cc pc = .ok (.if_icmp .ge off, 3)) (ht : (pc : Int) + off = (tgt : Int)) (kt : y ≤ x → gm E nL I lv tgt st) (kf : ¬ y ≤ x → gm E nL I lv (pc + 3) st) : gm E nL I lv pc (.int y :: .int x :: st) := by
  obtain ⟨p, l, e, R, s, m, args, below, meth, c, mc, ms, Q⟩ := E
  obtain ⟨hx, hb, hml⟩ := G
  intro H locs ls hI hl
  exact lv_icmp_ge hx hb d ht (fun h => kt h H locs ls hI hl) (fun h => kf h H locs ls hI hl)
theorem gm_if_gt (G : gG E cc nL) {x : Int32} {off : Int} (tgt : Nat) (d : decode cc pc = .ok (.ifCond .gt off, 3)) (ht : (pc : Int) + off = (tgt : Int)) (kt : 0 < x → gm E nL I lv tgt st) (kf : ¬ 0 < x → gm E nL I lv (pc + 3) st) : gm E nL I lv pc (.int x :: st) := by
  obtain ⟨p, l, e, R, s, m, args, below, meth, c, mc, ms, Q⟩ := E
  obtain ⟨hx, hb, hml⟩ := G
  intro H locs ls hI hl
  exact lv_if_gt hx hb d ht (fun h => kt h H locs ls hI hl) (fun h => kf h H locs ls hI hl)
theorem gm_icmp_gt (G : gG E cc nL) {x y : Int32} {off : Int} (tgt : Nat) (d : decode cc pc = .ok (.if_icmp .gt off, 3)) (ht : (pc : Int) + off = (tgt : Int)) (kt : y < x → gm E nL I lv tgt st) (kf : ¬ y < x → gm E nL I lv (pc + 3) st) : gm E nL I lv pc (.int y :: .int x :: st) := by
  obtain ⟨p, l, e, R, s, m, args, below, meth, c, mc, ms, Q⟩ := E
  obtain ⟨hx, hb, hml⟩ := G
  intro H locs ls hI hl
  exact lv_icmp_gt hx hb d ht (fun h => kt h H locs ls hI hl) (fun h => kf h H locs ls hI hl)
theorem gm_if_le (G : gG E cc nL) {x : Int32} {off : Int} (tgt : Nat) (d : decode cc pc = .ok (.ifCond .le off, 3)) (ht : (pc : Int) + off = (tgt : Int)) (kt : x ≤ 0 → gm E nL I lv tgt st) (kf : ¬ x ≤ 0 → gm E nL I lv (pc + 3) st) : gm E nL I lv pc (.int x :: st) := by
  obtain ⟨p, l, e, R, s, m, args, below, meth, c, mc, ms, Q⟩ := E
  obtain ⟨hx, hb, hml⟩ := G
  intro H locs ls hI hl
  exact lv_if_le hx hb d ht (fun h => kt h H locs ls hI hl) (fun h => kf h H locs ls hI hl)
theorem gm_icmp_le (G : gG E cc nL) {x y : Int32} {off : Int} (tgt : Nat) (d : decode cc pc = .ok (.if_icmp .le off, 3)) (ht : (pc : Int) + off = (tgt : Int)) (kt : x ≤ y → gm E nL I lv tgt st) (kf : ¬ x ≤ y → gm E nL I lv (pc + 3) st) : gm E nL I lv pc (.int y :: .int x :: st) := by
  obtain ⟨p, l, e, R, s, m, args, below, meth, c, mc, ms, Q⟩ := E
  obtain ⟨hx, hb, hml⟩ := G
  intro H locs ls hI hl
  exact lv_icmp_le hx hb d ht (fun h => kt h H locs ls hI hl) (fun h => kf h H locs ls hI hl)
theorem gN_icmp_ge (G : gG E cc nL) {a b : Nat} {off : Int} (tgt : Nat) (d : decode cc pc = .ok (.if_icmp .ge off, 3)) (ht : (pc : Int) + off = (tgt : Int)) (ha : a < 2147483648) (hb : b < 2147483648) (kt : b ≤ a → gm E nL I lv tgt st) (kf : a < b → gm E nL I lv (pc + 3) st) : gm E nL I lv pc (.int (nI b) :: .int (nI a) :: st) :=
  gm_icmp_ge G tgt d ht (fun h => kt ((nI_leI hb ha).mp h)) (fun h => kf (by rcases Nat.lt_or_ge a b with q | q; exact q; exact absurd ((nI_leI hb ha).mpr q) h))
theorem gN_icmp_lt (G : gG E cc nL) {a b : Nat} {off : Int} (tgt : Nat) (d : decode cc pc = .ok (.if_icmp .lt off, 3)) (ht : (pc : Int) + off = (tgt : Int)) (ha : a < 2147483648) (hb : b < 2147483648) (kt : a < b → gm E nL I lv tgt st) (kf : b ≤ a → gm E nL I lv (pc + 3) st) : gm E nL I lv pc (.int (nI b) :: .int (nI a) :: st) :=
  gm_icmp_lt G tgt d ht (fun h => kt ((nI_ltI ha hb).mp h)) (fun h => kf (by rcases Nat.lt_or_ge a b with q | q; exact absurd ((nI_ltI ha hb).mpr q) h; exact q))
theorem gN_icmp_le (G : gG E cc nL) {a b : Nat} {off : Int} (tgt : Nat) (d : decode cc pc = .ok (.if_icmp .le off, 3)) (ht : (pc : Int) + off = (tgt : Int)) (ha : a < 2147483648) (hb : b < 2147483648) (kt : a ≤ b → gm E nL I lv tgt st) (kf : b < a → gm E nL I lv (pc + 3) st) : gm E nL I lv pc (.int (nI b) :: .int (nI a) :: st) :=
  gm_icmp_le G tgt d ht (fun h => kt ((nI_leI ha hb).mp h)) (fun h => kf (by rcases Nat.lt_or_ge b a with q | q; exact q; exact absurd ((nI_leI ha hb).mpr q) h))
theorem gN_icmp_gt (G : gG E cc nL) {a b : Nat} {off : Int} (tgt : Nat) (d : decode cc pc = .ok (.if_icmp .gt off, 3)) (ht : (pc : Int) + off = (tgt : Int)) (ha : a < 2147483648) (hb : b < 2147483648) (kt : b < a → gm E nL I lv tgt st) (kf : a ≤ b → gm E nL I lv (pc + 3) st) : gm E nL I lv pc (.int (nI b) :: .int (nI a) :: st) :=
  gm_icmp_gt G tgt d ht (fun h => kt ((nI_ltI hb ha).mp h)) (fun h => kf (by rcases Nat.lt_or_ge b a with q | q; exact absurd ((nI_ltI hb ha).mpr q) h; exact q))
theorem gN_icmp_eq (G : gG E cc nL) {a b : Nat} {off : Int} (tgt : Nat) (d : decode cc pc = .ok (.if_icmp .eq off, 3)) (ht : (pc : Int) + off = (tgt : Int)) (ha : a < 2147483648) (hb : b < 2147483648) (kt : a = b → gm E nL I lv tgt st) (kf : a ≠ b → gm E nL I lv (pc + 3) st) : gm E nL I lv pc (.int (nI b) :: .int (nI a) :: st) :=
  gm_icmp_eq G tgt d ht (fun h => kt ((nI_eq ha hb).mp h)) (fun h => kf (fun q => h ((nI_eq ha hb).mpr q)))
theorem gN_icmp_ne (G : gG E cc nL) {a b : Nat} {off : Int} (tgt : Nat) (d : decode cc pc = .ok (.if_icmp .ne off, 3)) (ht : (pc : Int) + off = (tgt : Int)) (ha : a < 2147483648) (hb : b < 2147483648) (kt : a ≠ b → gm E nL I lv tgt st) (kf : a = b → gm E nL I lv (pc + 3) st) : gm E nL I lv pc (.int (nI b) :: .int (nI a) :: st) :=
  gm_icmp_ne G tgt d ht (fun h => kt (fun q => h ((nI_eq ha hb).mpr q))) (fun h => kf ((nI_eq ha hb).mp h))
theorem gN_if_eq (G : gG E cc nL) {a : Nat} {off : Int} (tgt : Nat) (d : decode cc pc = .ok (.ifCond .eq off, 3)) (ht : (pc : Int) + off = (tgt : Int)) (ha : a < 2147483648) (kt : a = 0 → gm E nL I lv tgt st) (kf : a ≠ 0 → gm E nL I lv (pc + 3) st) : gm E nL I lv pc (.int (nI a) :: st) :=
  gm_if_eq G tgt d ht (fun h => kt ((nI_eq ha (by decide)).mp (h.trans nI_0.symm))) (fun h => kf (fun q => h (by rw [q]; exact nI_0)))
theorem gN_if_ne (G : gG E cc nL) {a : Nat} {off : Int} (tgt : Nat) (d : decode cc pc = .ok (.ifCond .ne off, 3)) (ht : (pc : Int) + off = (tgt : Int)) (ha : a < 2147483648) (kt : a ≠ 0 → gm E nL I lv tgt st) (kf : a = 0 → gm E nL I lv (pc + 3) st) : gm E nL I lv pc (.int (nI a) :: st) :=
  gm_if_ne G tgt d ht (fun h => kt (fun q => h (by rw [q]; exact nI_0))) (fun h => kf ((nI_eq ha (by decide)).mp (h.trans nI_0.symm)))
theorem gN_if_lt (G : gG E cc nL) {a : Nat} {off : Int} (tgt : Nat) (d : decode cc pc = .ok (.ifCond .lt off, 3)) (ht : (pc : Int) + off = (tgt : Int)) (ha : a < 2147483648) (kf : gm E nL I lv (pc + 3) st) : gm E nL I lv pc (.int (nI a) :: st) :=
  gm_if_lt G tgt d ht (fun h => absurd h (nI_pos ha)) (fun _ => kf)
theorem gN_iinc (G : gG E cc nL) {i a : Nat} {lv' : List Value} (d : decode cc pc = .ok (.iinc i 1, 3)) (hk : lv[i]? = some (.int (nI a))) (h : ob_sok nL i lv = true) (hv : lv.take i ++ .int (nI (a + 1)) :: lv.drop (i + 1) = lv') (k : gm E nL I lv' (pc + 3) st) : gm E nL I lv pc st :=
  gm_iinc G d hk (nI_1 a) h hv k
theorem gN_iadd (G : gG E cc nL) {a b : Nat} (d : decode cc pc = .ok (.iadd, 1)) (k : gm E nL I lv (pc + 1) (.int (nI (a + b)) :: st)) : gm E nL I lv pc (.int (nI b) :: .int (nI a) :: st) := gm_iadd G d (nI_add a b) k
theorem gN_isub (G : gG E cc nL) {a b : Nat} (d : decode cc pc = .ok (.isub, 1)) (h : b ≤ a) (k : gm E nL I lv (pc + 1) (.int (nI (a - b)) :: st)) : gm E nL I lv pc (.int (nI b) :: .int (nI a) :: st) := gm_isub G d (pk_sub h) k
theorem gN_imul (G : gG E cc nL) {a b : Nat} (d : decode cc pc = .ok (.imul, 1)) (k : gm E nL I lv (pc + 1) (.int (nI (a * b)) :: st)) : gm E nL I lv pc (.int (nI b) :: .int (nI a) :: st) := gm_imul G d (pk_mul a b) k
theorem gN_idiv (G : gG E cc nL) {a b : Nat} (d : decode cc pc = .ok (.idiv, 1)) (ha : a < 2147483648) (h0 : 0 < b) (hb : b < 2147483648) (k : gm E nL I lv (pc + 1) (.int (nI (a / b)) :: st)) : gm E nL I lv pc (.int (nI b) :: .int (nI a) :: st) := gm_idiv G d (nI_ne0 h0 hb) (pk_div ha h0 hb) k
theorem gN_irem (G : gG E cc nL) {a b : Nat} (d : decode cc pc = .ok (.irem, 1)) (ha : a < 2147483648) (h0 : 0 < b) (hb : b < 2147483648) (k : gm E nL I lv (pc + 1) (.int (nI (a % b)) :: st)) : gm E nL I lv pc (.int (nI b) :: .int (nI a) :: st) := gm_irem G d (nI_ne0 h0 hb) (pk_rem ha h0 hb) k
theorem nb_sl : ∀ n, n < 32 → ((nI n &&& 31).toBitVec.smod 32).toNat = n := by decide +kernel
theorem gN_ishl (G : gG E cc nL) {a b : Nat} (d : decode cc pc = .ok (.ishl, 1)) (hb : b < 32) (h : a * 2 ^ b < 2 ^ 32) (k : gm E nL I lv (pc + 1) (.int (nI (a * 2 ^ b)) :: st)) : gm E nL I lv pc (.int (nI b) :: .int (nI a) :: st) := gm_ishl G d (pk_shlN _ b (nb_sl b hb) h) k
theorem gN_ishr (G : gG E cc nL) {a b : Nat} (d : decode cc pc = .ok (.ishr, 1)) (hb : b < 32) (h : a < 2147483648) (k : gm E nL I lv (pc + 1) (.int (nI (a / 2 ^ b)) :: st)) : gm E nL I lv pc (.int (nI b) :: .int (nI a) :: st) := gm_ishr G d (pk_shrN h _ b (nb_sl b hb)) k
theorem gN_iand1 (G : gG E cc nL) {a : Nat} (d : decode cc pc = .ok (.iand, 1)) (h : a < 2147483648) (k : gm E nL I lv (pc + 1) (.int (nI (a % 2)) :: st)) : gm E nL I lv pc (.int (nI 1) :: .int (nI a) :: st) := gm_iand G d (pk_andN (by omega) 1 (by decide)) k
theorem nb_bv (n : Nat) : (nI n).toBitVec = BitVec.ofNat 32 n := rfl
theorem nb_or (a b : Nat) : nI a ||| nI b = nI (a ||| b) := by
  apply Int32.toBitVec_inj.mp
  rw [Int32.toBitVec_or, nb_bv, nb_bv, nb_bv]
  exact (BitVec.ofNat_or (w := 32) (x := a) (y := b)).symm
theorem nb_xor (a b : Nat) : nI a ^^^ nI b = nI (a ^^^ b) := by
  apply Int32.toBitVec_inj.mp
  rw [Int32.toBitVec_xor, nb_bv, nb_bv, nb_bv]
  exact (BitVec.ofNat_xor (w := 32) (x := a) (y := b)).symm
theorem gN_ior (G : gG E cc nL) {a b : Nat} (d : decode cc pc = .ok (.ior, 1)) (k : gm E nL I lv (pc + 1) (.int (nI (a ||| b)) :: st)) : gm E nL I lv pc (.int (nI b) :: .int (nI a) :: st) := gm_ior G d (nb_or a b) k
theorem gN_ixor (G : gG E cc nL) {a b : Nat} (d : decode cc pc = .ok (.ixor, 1)) (k : gm E nL I lv (pc + 1) (.int (nI (a ^^^ b)) :: st)) : gm E nL I lv pc (.int (nI b) :: .int (nI a) :: st) := gm_ixor G d (nb_xor a b) k
theorem nb_b {v : Nat} (h : v < 128) : (nI v).toInt8.toInt32 = nI v := by
  have key : ∀ v, v < 128 → (nI v).toInt8.toInt32 = nI v := by decide +kernel
  exact key v h
theorem nb_s {v : Nat} (h : v < 128) : (nI v).toInt16.toInt32 = nI v := by
  have key : ∀ v, v < 128 → (nI v).toInt16.toInt32 = nI v := by decide +kernel
  exact key v h
theorem gN_i2b (G : gG E cc nL) {a : Nat} (d : decode cc pc = .ok (.i2b, 1)) (h : a < 128) (k : gm E nL I lv (pc + 1) (.int (nI a) :: st)) : gm E nL I lv pc (.int (nI a) :: st) := gm_i2b G d (nb_b h) k
theorem gN_i2s (G : gG E cc nL) {a : Nat} (d : decode cc pc = .ok (.i2s, 1)) (h : a < 128) (k : gm E nL I lv (pc + 1) (.int (nI a) :: st)) : gm E nL I lv pc (.int (nI a) :: st) := gm_i2s G d (nb_s h) k
end GM
end
section
/-! an object of two ints and some arrays: its cells, its rows, its methods' contracts -/
set_option maxRecDepth 100000
abbrev vwCl : List vw_C := [(RX1, TX1, 11), (RX2, TX2, 9)]
/-- a class: name, fields, how many, its number in vwCl, its arrays (type, length) -/
abbrev ob_K : Type := String × u_T × Nat × Nat × List (FieldType × Nat)
abbrev ob_S : Type := Int32 × Int32 × (Nat → Nat → Int32)
abbrev ob_X : Type := va_G × (Nat → Prop) × (Nat → ClassId) × Nat × (Nat → Nat) × Heap
def ob_ar (cs : Nat → ClassId) (ad : Nat → Nat) (F : Nat → Nat → Int32) : Nat → List (FieldType × Nat) → va_W
  | _, [] => []
  | j, q :: r => (ad j, .inl (cs j, q.2, .inl (F j))) :: ob_ar cs ad F (j + 1) r
def ob_ty (cs : Nat → ClassId) : Nat → List (FieldType × Nat) → List (ClassId × FieldType)
  | _, [] => []
  | j, q :: r => (cs j, q.1) :: ob_ty cs (j + 1) r
def ob_rf (ad : Nat → Nat) : Nat → List (FieldType × Nat) → List Value
  | _, [] => []
  | j, _ :: r => .ref (ad j) :: ob_rf ad (j + 1) r
def ob_W (K : ob_K) (cs : Nat → ClassId) (h : Nat) (ad : Nat → Nat) (S : ob_S) : va_W := (h, .inr (K.2.2.2.1, .int S.1 :: .int S.2.1 :: ob_rf ad 0 K.2.2.2.2)) :: ob_ar cs ad S.2.2 0 K.2.2.2.2
theorem ob_ar_get (cs : Nat → ClassId) (ad : Nat → Nat) (F : Nat → Nat → Int32) (l : List (FieldType × Nat)) : ∀ (j k : Nat), (ob_ar cs ad F j l)[k]? = (l[k]?).map (fun q => (ad (j + k), .inl (cs (j + k), q.2, .inl (F (j + k))))) := by
  induction l with
  | nil => intro j k; simp [ob_ar]
  | cons q r ih =>
    intro j k
    cases k with
    | zero => simp [ob_ar]
    | succ k =>
      simp only [ob_ar, List.getElem?_cons_succ]
      rw [ih]
      have e : j + 1 + k = j + (k + 1) := by omega
      rw [e]
theorem ob_ty_get (cs : Nat → ClassId) (l : List (FieldType × Nat)) : ∀ (j k : Nat), (ob_ty cs j l)[k]? = (l[k]?).map (fun q => (cs (j + k), q.1)) := by
  induction l with
  | nil => intro j k; simp [ob_ty]
  | cons q r ih =>
    intro j k
    cases k with
    | zero => simp [ob_ty]
    | succ k =>
      simp only [ob_ty, List.getElem?_cons_succ]
      rw [ih]
      have e : j + 1 + k = j + (k + 1) := by omega
      rw [e]
theorem ob_rf_get (ad : Nat → Nat) (l : List (FieldType × Nat)) : ∀ (j k : Nat), (ob_rf ad j l)[k]? = (l[k]?).map (fun _ => Value.ref (ad (j + k))) := by
  induction l with
  | nil => intro j k; simp [ob_rf]
  | cons q r ih =>
    intro j k
    cases k with
    | zero => simp [ob_rf]
    | succ k =>
      simp only [ob_rf, List.getElem?_cons_succ]
      rw [ih]
      have e : j + 1 + k = j + (k + 1) := by omega
      rw [e]
theorem ob_W_arr {K : ob_K} (cs : Nat → ClassId) (h : Nat) (ad : Nat → Nat) (n c : Int32) (F : Nat → Nat → Int32) {j len : Nat} {ty : FieldType} (hj : K.2.2.2.2[j]? = some (ty, len)) : (ob_W K cs h ad (n, c, F))[j + 1]? = some (ad j, .inl (cs j, len, .inl (F j))) := by
  unfold ob_W
  rw [List.getElem?_cons_succ, ob_ar_get, hj]
  simp
theorem ob_W_set {K : ob_K} (cs : Nat → ClassId) (h : Nat) (ad : Nat → Nat) (n c : Int32) (F : Nat → Nat → Int32) {j len : Nat} {ty : FieldType} (hj : K.2.2.2.2[j]? = some (ty, len)) (g : Nat → Int32) : (ob_W K cs h ad (n, c, F)).set (j + 1) (ad j, .inl (cs j, len, .inl g)) = ob_W K cs h ad (n, c, va_up F j g) := by
  unfold ob_W
  rw [List.set_cons_succ]
  congr 1
  apply List.ext_getElem?
  intro k
  have hlen : j < (ob_ar cs ad F 0 K.2.2.2.2).length := by
    have h1 : (ob_ar cs ad F 0 K.2.2.2.2)[j]? = some (ad (0 + j), .inl (cs (0 + j), len, .inl (F (0 + j)))) := by rw [ob_ar_get, hj]; rfl
    exact (List.getElem?_eq_some_iff.mp h1).1
  rw [List.getElem?_set]
  by_cases hk : j = k
  · subst hk
    rw [if_pos rfl, if_pos hlen, ob_ar_get, hj]
    simp [va_up]
  · have hk2 : ¬ k = j := fun e => hk e.symm
    rw [if_neg hk, ob_ar_get, ob_ar_get]
    simp [va_up, hk2]
/-- what is known of a class, once for all -/
def ob_C (K : ob_K) : Prop := vwCl[K.2.2.2.1]? = some (K.1, K.2.1, K.2.2.1) ∧ (∀ w ∈ u_ws K.1 K.2.1 K.2.2.1, w ∈ lw_all) ∧ (∃ ty : Nat → FieldType, ∀ k, k < K.2.2.1 → parseFieldDescriptor (K.2.1 k).2.2.1 = some (ty k)) ∧ (∀ a, a < K.2.2.1 → ∀ b, b < K.2.2.1 → a ≠ b → (K.2.1 a).2.1 ≠ (K.2.1 b).2.1) ∧ (∀ q ∈ K.2.2.2.2, q.2 < 2147483648) ∧ K.2.2.2.2.length + 2 = K.2.2.1 ∧ plainName K.1 = true ∧ (K.1 ≠ "java/lang/invoke/MethodHandle" ∧ K.1 ≠ "java/lang/invoke/VarHandle") ∧ ∀ k, k < K.2.2.1 → (K.2.1 k).1 = K.1
def ob_I (K : ob_K) (X : ob_X) (S : ob_S) : Heap → List Loc → Prop :=
  match X with
  | (D, A, cs, h, ad, H0) => fun H locs => va_P D vwCl (ob_W K cs h ad S) H ∧ va_D A (ob_W K cs h ad S) ∧ va_S A H0 H locs
def ob_h (X : ob_X) : Nat := X.2.2.2.1
def ob_a (X : ob_X) (j : Nat) : Nat := X.2.2.2.2.1 j
def ob_G (K : ob_K) (X : ob_X) (E : gE) (cc : ByteArray) (nL fr loc : Nat) : Prop :=
  gG E cc nL ∧ ob_C K ∧
  match X, E with
  | (D, A, cs, _, _, H0), (_, _, _, R, s, m, args, _, _, _, mc, ms, _) => H0 = s.heap ∧ s.vm.findClass K.1 = some m.cls ∧ (∀ w ∈ lw_all, w.before args s = true) ∧ va_K D vwCl (ob_ty cs 0 K.2.2.2.2) s ∧ (∀ q, s.heap.size ≤ q → A q) ∧ R.frames = fr ∧ R.locals = loc ∧ mc ≤ R.cells ∧ ms ≤ R.slots
section OB
variable {K : ob_K} {X : ob_X} {E : gE} {nL fr loc : Nat} {lv : List Value} {pc : Nat} {st : List Value} {cc : ByteArray} {n c : Int32} {F : Nat → Nat → Int32}
theorem ob_getn (G : ob_G K X E cc nL fr loc) {idx : Nat} (q : Cond.fieldLink K.1 idx K.1 (K.2.1 0).2.1 (K.2.1 0).2.2.1 ∈ lw_all) (d : decode cc pc = .ok (.getfield idx, 3)) (k : gm E nL (ob_I K X (n, c, F)) lv (pc + 3) (.int n :: st)) : gm E nL (ob_I K X (n, c, F)) lv pc (.ref (ob_h X) :: st) := by
  obtain ⟨p, l, e, R, s, m, args, below, meth, cd, mc, ms, Q⟩ := E
  obtain ⟨D, A, cs, h, ad, H0⟩ := X
  obtain ⟨⟨hx, hb, hml⟩, ⟨hc, hin, hty, hnm, hsm, hN, hpl, hmh, hdc⟩, rfl, hown, hts, hK, hA, hfr, hlo, hmc, hms⟩ := G
  intro H locs ls hI hl
  exact va_get (ci := K.2.2.2.1) (C := K.1) (T := K.2.1) (N := K.2.2.1) (v := .int n) hx hb hts hin hown hK hI.1 0 rfl hc 0 (by omega) (hts _ q) (fun _ h9 => by rw [hdc 0 (by omega)] at h9; exact h9) rfl d (k H locs ls hI hl)
theorem ob_getc (G : ob_G K X E cc nL fr loc) {idx : Nat} (q : Cond.fieldLink K.1 idx K.1 (K.2.1 1).2.1 (K.2.1 1).2.2.1 ∈ lw_all) (d : decode cc pc = .ok (.getfield idx, 3)) (k : gm E nL (ob_I K X (n, c, F)) lv (pc + 3) (.int c :: st)) : gm E nL (ob_I K X (n, c, F)) lv pc (.ref (ob_h X) :: st) := by
  obtain ⟨p, l, e, R, s, m, args, below, meth, cd, mc, ms, Q⟩ := E
  obtain ⟨D, A, cs, h, ad, H0⟩ := X
  obtain ⟨⟨hx, hb, hml⟩, ⟨hc, hin, hty, hnm, hsm, hN, hpl, hmh, hdc⟩, rfl, hown, hts, hK, hA, hfr, hlo, hmc, hms⟩ := G
  intro H locs ls hI hl
  exact va_get (ci := K.2.2.2.1) (C := K.1) (T := K.2.1) (N := K.2.2.1) (v := .int c) hx hb hts hin hown hK hI.1 0 rfl hc 1 (by omega) (hts _ q) (fun _ h9 => by rw [hdc 1 (by omega)] at h9; exact h9) rfl d (k H locs ls hI hl)
theorem ob_geta (G : ob_G K X E cc nL fr loc) {idx : Nat} (j : Nat) {z : FieldType × Nat} (hj : K.2.2.2.2[j]? = some z) (q : Cond.fieldLink K.1 idx K.1 (K.2.1 (j + 2)).2.1 (K.2.1 (j + 2)).2.2.1 ∈ lw_all) (d : decode cc pc = .ok (.getfield idx, 3)) (k : gm E nL (ob_I K X (n, c, F)) lv (pc + 3) (.ref (ob_a X j) :: st)) : gm E nL (ob_I K X (n, c, F)) lv pc (.ref (ob_h X) :: st) := by
  obtain ⟨p, l, e, R, s, m, args, below, meth, cd, mc, ms, Q⟩ := E
  obtain ⟨D, A, cs, h, ad, H0⟩ := X
  obtain ⟨⟨hx, hb, hml⟩, ⟨hc, hin, hty, hnm, hsm, hN, hpl, hmh, hdc⟩, rfl, hown, hts, hK, hA, hfr, hlo, hmc, hms⟩ := G
  intro H locs ls hI hl
  have hlt := (List.getElem?_eq_some_iff.mp hj).1
  have hv : (Value.int n :: Value.int c :: ob_rf ad 0 K.2.2.2.2)[j + 2]? = some (.ref (ad j)) := by
    rw [List.getElem?_cons_succ, List.getElem?_cons_succ, ob_rf_get, hj]
    simp
  exact va_get (ci := K.2.2.2.1) (C := K.1) (T := K.2.1) (N := K.2.2.1) (v := .ref (ad j)) hx hb hts hin hown hK hI.1 0 rfl hc (j + 2) (by omega) (hts _ q) (fun _ h9 => by rw [hdc (j + 2) (by omega)] at h9; exact h9) hv d (k H locs ls hI hl)
theorem ob_putc (G : ob_G K X E cc nL fr loc) {idx : Nat} {x : Int32} (q : Cond.fieldLink K.1 idx K.1 (K.2.1 1).2.1 (K.2.1 1).2.2.1 ∈ lw_all) (hfin : (K.2.1 1).2.2.2 = false) (hd : parseFieldDescriptor (K.2.1 1).2.2.1 = some .int) (d : decode cc pc = .ok (.putfield idx, 3)) (k : gm E nL (ob_I K X (n, x, F)) lv (pc + 3) st) : gm E nL (ob_I K X (n, c, F)) lv pc (.int x :: .ref (ob_h X) :: st) := by
  obtain ⟨p, l, e, R, s, m, args, below, meth, cd, mc, ms, Q⟩ := E
  obtain ⟨D, A, cs, h, ad, H0⟩ := X
  obtain ⟨⟨hx, hb, hml⟩, ⟨hc, hin, ⟨ty0, hty⟩, hnm, hsm, hN, hpl, hmh, hdc⟩, rfl, hown, hts, hK, hA, hfr, hlo, hmc, hms⟩ := G
  intro H locs ls hI hl
  refine va_put (ci := K.2.2.2.1) (C := K.1) (T := K.2.1) (N := K.2.2.1) (v := .int x) (ty := .int) hx hb hts hin ty0 hty hnm hown hK hI.1 hI.2.1 hI.2.2 0 rfl hc 1 (by omega) (hts _ q) (fun _ h9 => by rw [hdc 1 (by omega)] at h9; exact h9) hfin hd rfl rfl (by simp) d (fun H locs hP hD hS => ?_)
  exact k H locs ls ⟨hP, hD, hS⟩ hl
theorem ob_iald (G : ob_G K X E cc nL fr loc) (j : Nat) {len : Nat} (hj : K.2.2.2.2[j]? = some (.int, len)) {a : Nat} {v : Int32} (d : decode cc pc = .ok (.iaload, 1)) (ha : a < len) (hv : F j a = v) (k : gm E nL (ob_I K X (n, c, F)) lv (pc + 1) (.int v :: st)) : gm E nL (ob_I K X (n, c, F)) lv pc (.int (nI a) :: .ref (ob_a X j) :: st) := by
  obtain ⟨p, l, e, R, s, m, args, below, meth, cd, mc, ms, Q⟩ := E
  obtain ⟨D, A, cs, h, ad, H0⟩ := X
  obtain ⟨⟨hx, hb, hml⟩, ⟨hc, hin, hty, hnm, hsm, hN, hpl, hmh, hdc⟩, rfl, hown, hts, hK, hA, hfr, hlo, hmc, hms⟩ := G
  intro H locs ls hI hl
  have hlen : len < 2147483648 := hsm _ (List.mem_of_getElem? hj)
  have hq := ob_W_arr (K := K) cs h ad n c F hj
  have ht : (ob_ty cs 0 K.2.2.2.2)[j]? = some (cs j, .int) := by rw [ob_ty_get, hj]; simp
  refine va_iald hx hb hK hI.1 (j + 1) j hq ht (vp_in_nI ha hlen) d ?_
  rw [nI_clamp (by omega), hv]
  exact k H locs ls hI hl
theorem ob_iast (G : ob_G K X E cc nL fr loc) (j : Nat) {len : Nat} (hj : K.2.2.2.2[j]? = some (.int, len)) {a : Nat} {x : Int32} (d : decode cc pc = .ok (.iastore, 1)) (ha : a < len) (k : gm E nL (ob_I K X (n, c, va_up F j (upd (F j) a x))) lv (pc + 1) st) : gm E nL (ob_I K X (n, c, F)) lv pc (.int x :: .int (nI a) :: .ref (ob_a X j) :: st) := by
  obtain ⟨p, l, e, R, s, m, args, below, meth, cd, mc, ms, Q⟩ := E
  obtain ⟨D, A, cs, h, ad, H0⟩ := X
  obtain ⟨⟨hx, hb, hml⟩, ⟨hc, hin, hty, hnm, hsm, hN, hpl, hmh, hdc⟩, rfl, hown, hts, hK, hA, hfr, hlo, hmc, hms⟩ := G
  intro H locs ls hI hl
  have hlen : len < 2147483648 := hsm _ (List.mem_of_getElem? hj)
  have hq := ob_W_arr (K := K) cs h ad n c F hj
  have ht : (ob_ty cs 0 K.2.2.2.2)[j]? = some (cs j, .int) := by rw [ob_ty_get, hj]; simp
  refine va_iast hx hb hK hI.1 hI.2.1 hI.2.2 (j + 1) j hq ht (vp_in_nI ha hlen) d (fun H locs hP hD hS => ?_)
  rw [nI_clamp (by omega), ob_W_set cs h ad n c F hj] at hP hD
  exact k H locs ls ⟨hP, hD, hS⟩ hl
theorem ob_bald (G : ob_G K X E cc nL fr loc) (j : Nat) {len : Nat} (hj : K.2.2.2.2[j]? = some (.byte, len)) {a : Nat} {v : Int32} (d : decode cc pc = .ok (.baload, 1)) (ha : a < len) (hv : F j a = v) (k : gm E nL (ob_I K X (n, c, F)) lv (pc + 1) (.int v :: st)) : gm E nL (ob_I K X (n, c, F)) lv pc (.int (nI a) :: .ref (ob_a X j) :: st) := by
  obtain ⟨p, l, e, R, s, m, args, below, meth, cd, mc, ms, Q⟩ := E
  obtain ⟨D, A, cs, h, ad, H0⟩ := X
  obtain ⟨⟨hx, hb, hml⟩, ⟨hc, hin, hty, hnm, hsm, hN, hpl, hmh, hdc⟩, rfl, hown, hts, hK, hA, hfr, hlo, hmc, hms⟩ := G
  intro H locs ls hI hl
  have hlen : len < 2147483648 := hsm _ (List.mem_of_getElem? hj)
  have hq := ob_W_arr (K := K) cs h ad n c F hj
  have ht : (ob_ty cs 0 K.2.2.2.2)[j]? = some (cs j, .byte) := by rw [ob_ty_get, hj]; simp
  refine va_bald hx hb hK hI.1 (j + 1) j hq ht (vp_in_nI ha hlen) d ?_
  rw [nI_clamp (by omega), hv]
  exact k H locs ls hI hl
theorem ob_bast (G : ob_G K X E cc nL fr loc) (j : Nat) {len : Nat} (hj : K.2.2.2.2[j]? = some (.byte, len)) {a : Nat} {x y : Int32} (d : decode cc pc = .ok (.bastore, 1)) (ha : a < len) (hy : vp_nar .byte x = y) (k : gm E nL (ob_I K X (n, c, va_up F j (upd (F j) a y))) lv (pc + 1) st) : gm E nL (ob_I K X (n, c, F)) lv pc (.int x :: .int (nI a) :: .ref (ob_a X j) :: st) := by
  obtain ⟨p, l, e, R, s, m, args, below, meth, cd, mc, ms, Q⟩ := E
  obtain ⟨D, A, cs, h, ad, H0⟩ := X
  obtain ⟨⟨hx, hb, hml⟩, ⟨hc, hin, hty, hnm, hsm, hN, hpl, hmh, hdc⟩, rfl, hown, hts, hK, hA, hfr, hlo, hmc, hms⟩ := G
  intro H locs ls hI hl
  have hlen : len < 2147483648 := hsm _ (List.mem_of_getElem? hj)
  have hq := ob_W_arr (K := K) cs h ad n c F hj
  have ht : (ob_ty cs 0 K.2.2.2.2)[j]? = some (cs j, .byte) := by rw [ob_ty_get, hj]; simp
  refine va_bast hx hb hK hI.1 hI.2.1 hI.2.2 (j + 1) j hq ht (vp_in_nI ha hlen) d (fun H locs hP hD hS => ?_)
  rw [nI_clamp (by omega), hy, ob_W_set cs h ad n c F hj] at hP hD
  exact k H locs ls ⟨hP, hD, hS⟩ hl
theorem ob_sald (G : ob_G K X E cc nL fr loc) (j : Nat) {len : Nat} (hj : K.2.2.2.2[j]? = some (.short, len)) {a : Nat} {v : Int32} (d : decode cc pc = .ok (.saload, 1)) (ha : a < len) (hv : F j a = v) (k : gm E nL (ob_I K X (n, c, F)) lv (pc + 1) (.int v :: st)) : gm E nL (ob_I K X (n, c, F)) lv pc (.int (nI a) :: .ref (ob_a X j) :: st) := by
  obtain ⟨p, l, e, R, s, m, args, below, meth, cd, mc, ms, Q⟩ := E
  obtain ⟨D, A, cs, h, ad, H0⟩ := X
  obtain ⟨⟨hx, hb, hml⟩, ⟨hc, hin, hty, hnm, hsm, hN, hpl, hmh, hdc⟩, rfl, hown, hts, hK, hA, hfr, hlo, hmc, hms⟩ := G
  intro H locs ls hI hl
  have hlen : len < 2147483648 := hsm _ (List.mem_of_getElem? hj)
  have hq := ob_W_arr (K := K) cs h ad n c F hj
  have ht : (ob_ty cs 0 K.2.2.2.2)[j]? = some (cs j, .short) := by rw [ob_ty_get, hj]; simp
  refine va_sald hx hb hK hI.1 (j + 1) j hq ht (vp_in_nI ha hlen) d ?_
  rw [nI_clamp (by omega), hv]
  exact k H locs ls hI hl
theorem ob_sast (G : ob_G K X E cc nL fr loc) (j : Nat) {len : Nat} (hj : K.2.2.2.2[j]? = some (.short, len)) {a : Nat} {x y : Int32} (d : decode cc pc = .ok (.sastore, 1)) (ha : a < len) (hy : vp_nar .short x = y) (k : gm E nL (ob_I K X (n, c, va_up F j (upd (F j) a y))) lv (pc + 1) st) : gm E nL (ob_I K X (n, c, F)) lv pc (.int x :: .int (nI a) :: .ref (ob_a X j) :: st) := by
  obtain ⟨p, l, e, R, s, m, args, below, meth, cd, mc, ms, Q⟩ := E
  obtain ⟨D, A, cs, h, ad, H0⟩ := X
  obtain ⟨⟨hx, hb, hml⟩, ⟨hc, hin, hty, hnm, hsm, hN, hpl, hmh, hdc⟩, rfl, hown, hts, hK, hA, hfr, hlo, hmc, hms⟩ := G
  intro H locs ls hI hl
  have hlen : len < 2147483648 := hsm _ (List.mem_of_getElem? hj)
  have hq := ob_W_arr (K := K) cs h ad n c F hj
  have ht : (ob_ty cs 0 K.2.2.2.2)[j]? = some (cs j, .short) := by rw [ob_ty_get, hj]; simp
  refine va_sast hx hb hK hI.1 hI.2.1 hI.2.2 (j + 1) j hq ht (vp_in_nI ha hlen) d (fun H locs hP hD hS => ?_)
  rw [nI_clamp (by omega), hy, ob_W_set cs h ad n c F hj] at hP hD
  exact k H locs ls ⟨hP, hD, hS⟩ hl
theorem nb_vb {v : Nat} (h : v < 128) : vp_nar .byte (nI v) = nI v := by rw [vp_nar_byte]; exact nb_b h
theorem nb_vs {v : Nat} (h : v < 128) : vp_nar .short (nI v) = nI v := by rw [vp_nar_short]; exact nb_s h
end OB
/-- a method's contract: it answers an int; the object's state goes from S to S', and 'post answer S'' -/
def ob_Met (K : ob_K) (y : MethodName) (cc : ByteArray) (nL : Nat) (ret : Option FieldType) (fr loc : Nat) (as : List Value) (S : ob_S) (post : Int32 → ob_S → Prop) : Prop :=
  ∀ (l : Launch) (D : va_G) (cs : Nat → ClassId) (h : Nat) (ad : Nat → Nat) (sz : Nat), Met l y (ws_ y cc nL ret) ({ frames := fr, cells := 0, slots := 0, locals := loc }) (va_Pc (.ref h :: as) (fun U => U.heap.size = sz ∧ va_P D vwCl (ob_W K cs h ad S) U.heap ∧ va_K D vwCl (ob_ty cs 0 K.2.2.2.2) U ∧ va_D (fun _ => True) (ob_W K cs h ad S))) (va_Qi post (fun u t => va_P D vwCl (ob_W K cs h ad u) t.heap ∧ va_K D vwCl (ob_ty cs 0 K.2.2.2.2) t ∧ va_D (va_A (ob_W K cs h ad S) sz) (ob_W K cs h ad u)) (va_A (ob_W K cs h ad S) sz)) 0 0 (va_A (ob_W K cs h ad S) sz)
def ob_MetV (K : ob_K) (y : MethodName) (cc : ByteArray) (nL : Nat) (fr loc : Nat) (as : List Value) (S : ob_S) (post : ob_S → Prop) : Prop :=
  ∀ (l : Launch) (D : va_G) (cs : Nat → ClassId) (h : Nat) (ad : Nat → Nat) (sz : Nat), Met l y (ws_ y cc nL none) ({ frames := fr, cells := 0, slots := 0, locals := loc }) (va_Pc (.ref h :: as) (fun U => U.heap.size = sz ∧ va_P D vwCl (ob_W K cs h ad S) U.heap ∧ va_K D vwCl (ob_ty cs 0 K.2.2.2.2) U ∧ va_D (fun _ => True) (ob_W K cs h ad S))) (va_Qv post (fun u t => va_P D vwCl (ob_W K cs h ad u) t.heap ∧ va_K D vwCl (ob_ty cs 0 K.2.2.2.2) t ∧ va_D (va_A (ob_W K cs h ad S) sz) (ob_W K cs h ad u)) (va_A (ob_W K cs h ad S) sz)) 0 0 (va_A (ob_W K cs h ad S) sz)
theorem ob_args {as : List Value} (hcat : as.all (fun v => v.category == 1) = true) : (lg_sl as).length = as.length ∧ ∀ j, lv_args j as = ob_lv j as := by
  induction as with
  | nil => exact ⟨rfl, fun _ => rfl⟩
  | cons v r ih =>
    simp only [List.all_cons, Bool.and_eq_true, beq_iff_eq] at hcat
    obtain ⟨h1, h2⟩ := hcat
    obtain ⟨i1, i2⟩ := ih h2
    have hne : ¬ v.category = 2 := by omega
    refine ⟨?_, fun j => ?_⟩
    · have e : lg_sl (v :: r) = (if v.category = 2 then [.val v, .second] else [.val v]) ++ lg_sl r := rfl
      rw [e, if_neg hne]
      simp [i1]
    · show (j, v) :: lv_args (if v.category = 2 then j + 2 else j + 1) r = (j, v) :: ob_lv (j + 1) r
      rw [if_neg hne, i2]
set_option maxHeartbeats 4000000 in
theorem ob_intro {K : ob_K} {y : MethodName} {cc : ByteArray} {nL fr loc : Nat} {ty : FieldType} {as : List Value} {S : ob_S} {post : Int32 → ob_S → Prop} (hC : ob_C K) (hy : y.cls = K.1) (hcat : as.all (fun v => v.category == 1) = true) (hlen : as.length + 1 ≤ nL)
    (body : ∀ (E : gE) (X : ob_X), ob_G K X E cc nL fr loc → (∀ (S' : ob_S) (lv : List Value) (pc : Nat) (r : Int32), decode cc pc = .ok (.ireturn, 1) → narrow ty (.int r) = .int r → post r S' → gm E nL (ob_I K X S') lv pc [.int r]) → gm E nL (ob_I K X S) (.ref (ob_h X) :: as) 0 []) :
    ob_Met K y cc nL (some ty) fr loc as S post := by
  intro l D cs h ad sz
  refine Met.ofW (cc := cc) (maxL := nL) (ret := some ty) (by rw [hy]; exact hC.2.2.2.2.2.2.1) rfl ?_
  intro p e s m args below meth c s₁ B hml hv
  obtain ⟨rfl, hsz, hP, hK, hD0⟩ := hv
  have hx := B.exec
  have hb := B.bytes
  have hr := B.returns
  have hts := atoms_spec (ws := ws_ y cc nL (some ty)) B.pre
  have hts : ∀ w ∈ lw_all, w.before _ s = true := fun w h => hts w (List.mem_cons_of_mem _ h)
  have hown : s.vm.findClass K.1 = some m.cls := by rw [← hy]; exact findClass_of_methodNamed B.named
  have hlocks := B.notSynchronized
  subst hsz
  have hD := hD0.self (sz := s.heap.size)
  have hA : ∀ q : Nat, s.heap.size ≤ q → va_A (ob_W K cs h ad S) s.heap.size q := fun q h => Or.inr h
  have hcat2 : (Value.ref h :: as).all (fun v => v.category == 1) = true := by rw [List.all_cons, hcat]; rfl
  obtain ⟨hsl, hla⟩ := ob_args hcat2
  have hl := lv_entry (Value.ref h :: as) (n := nL) (by rw [hsl]; exact hlen)
  rw [lg_entry_eq]
  rw [hla] at hl
  refine body (p, l, e, _, s, m, _, below, meth, c, 0, 0, _) (D, va_A (ob_W K cs h ad S) s.heap.size, cs, h, ad, s.heap) ⟨⟨hx, hb, hml⟩, hC, rfl, hown, hts, hK, hA, rfl, rfl, Nat.zero_le _, Nat.zero_le _⟩ ?_ s.heap [] _ ⟨hP, hD, va_S.rf⟩ hl
  intro S' lv pc r hd hn hp H locs ls hI hl
  exact W.zret hx hb hr hn (fun t ht hW => ⟨⟨r, S', rfl, hp, by rw [ht]; exact hI.1, va_K.moved hW.alike hK, hI.2.1⟩, hI.2.2.F ht⟩) hI.2.2.2.2 hd hlocks
set_option maxHeartbeats 4000000 in
theorem ob_introV {K : ob_K} {y : MethodName} {cc : ByteArray} {nL fr loc : Nat} {as : List Value} {S : ob_S} {post : ob_S → Prop} (hC : ob_C K) (hy : y.cls = K.1) (hcat : as.all (fun v => v.category == 1) = true) (hlen : as.length + 1 ≤ nL)
    (body : ∀ (E : gE) (X : ob_X), ob_G K X E cc nL fr loc → (∀ (S' : ob_S) (lv : List Value) (pc : Nat), decode cc pc = .ok (.return_, 1) → post S' → gm E nL (ob_I K X S') lv pc []) → gm E nL (ob_I K X S) (.ref (ob_h X) :: as) 0 []) :
    ob_MetV K y cc nL fr loc as S post := by
  intro l D cs h ad sz
  refine Met.ofW (cc := cc) (maxL := nL) (ret := none) (by rw [hy]; exact hC.2.2.2.2.2.2.1) rfl ?_
  intro p e s m args below meth c s₁ B hml hv
  obtain ⟨rfl, hsz, hP, hK, hD0⟩ := hv
  have hx := B.exec
  have hb := B.bytes
  have hr := B.returns
  have hts := atoms_spec (ws := ws_ y cc nL none) B.pre
  have hts : ∀ w ∈ lw_all, w.before _ s = true := fun w h => hts w (List.mem_cons_of_mem _ h)
  have hown : s.vm.findClass K.1 = some m.cls := by rw [← hy]; exact findClass_of_methodNamed B.named
  have hlocks := B.notSynchronized
  subst hsz
  have hD := hD0.self (sz := s.heap.size)
  have hA : ∀ q : Nat, s.heap.size ≤ q → va_A (ob_W K cs h ad S) s.heap.size q := fun q h => Or.inr h
  have hcat2 : (Value.ref h :: as).all (fun v => v.category == 1) = true := by rw [List.all_cons, hcat]; rfl
  obtain ⟨hsl, hla⟩ := ob_args hcat2
  have hl := lv_entry (Value.ref h :: as) (n := nL) (by rw [hsl]; exact hlen)
  rw [lg_entry_eq]
  rw [hla] at hl
  refine body (p, l, e, _, s, m, _, below, meth, c, 0, 0, _) (D, va_A (ob_W K cs h ad S) s.heap.size, cs, h, ad, s.heap) ⟨⟨hx, hb, hml⟩, hC, rfl, hown, hts, hK, hA, rfl, rfl, Nat.zero_le _, Nat.zero_le _⟩ ?_ s.heap [] _ ⟨hP, hD, va_S.rf⟩ hl
  intro S' lv pc hd hp H locs ls hI hl
  exact W.vret hx hb hr (fun t ht hW => ⟨⟨S', rfl, hp, by rw [ht]; exact hI.1, va_K.moved hW.alike hK, hI.2.1⟩, hI.2.2.F ht⟩) hI.2.2.2.2 hd hlocks
/-- the room and the words of a call: numbers alone -/
def ob_fit (fr loc fr' loc' nL' : Nat) : Bool := decide (fr' + 1 ≤ fr) && decide (8 + (nL' + 11) + loc' ≤ loc)
theorem ob_fit_spec {fr loc fr' loc' nL' : Nat} (h : ob_fit fr loc fr' loc' nL' = true) : fr' + 1 ≤ fr ∧ 8 + (nL' + 11) + loc' ≤ loc := by
  unfold ob_fit at h
  simp only [Bool.and_eq_true, decide_eq_true_eq] at h
  exact h
section OC
variable {K : ob_K} {X : ob_X} {E : gE} {nL fr loc : Nat} {lv : List Value} {pc : Nat} {st rest : List Value} {cc cc' : ByteArray} {S : ob_S} {y : MethodName} {nL' fr' loc' idx np : Nat} {ret : Option FieldType} {as : List Value}
set_option maxHeartbeats 4000000 in
theorem ob_call {post : Int32 → ob_S → Prop} (G : ob_G K X E cc nL fr loc) (hm : ob_Met K y cc' nL' ret fr' loc' as S post) (hw : GoodIn lw_all (wsV K.1 idx K.1 y (ws_ y cc' nL' ret))) (hy : y.cls = K.1) (hnp : (parseMethodDescriptor y.desc).map (fun d => d.parameters.length) = some np) (hn : as.length = np) (hf : ob_fit fr loc fr' loc' nL' = true) (hst : st = as.reverse ++ .ref (ob_h X) :: rest) (hcat : (rest.map fun v => v.category).sum ≤ 8) (d : decode cc pc = .ok (.invokevirtual idx, 3)) (k : ∀ (r : Int32) (S' : ob_S), post r S' → gm E nL (ob_I K X S') lv (pc + 3) (.int r :: rest)) : gm E nL (ob_I K X S) lv pc st := by
  subst hst
  obtain ⟨p, l, e, R, s, m, args, below, meth, cd, mc, ms, Q⟩ := E
  obtain ⟨D, A, cs, h, ad, H0⟩ := X
  obtain ⟨⟨hx, hb, hml⟩, ⟨hc, hin, hty, hnm, hsm, hN, hpl, hmh, hdc⟩, rfl, hown, hts, hK, hA, hfr, hlo, hmc, hms⟩ := G
  obtain ⟨hf1, hf2⟩ := ob_fit_spec hf
  intro H locs ls hI hl
  obtain ⟨hP, hD, hS⟩ := hI
  have hFc : ∀ q, va_A (ob_W K cs h ad S) H.size q → A q := by
    intro q hq
    rcases hq with ⟨k2, e2, h2⟩ | h2
    · exact hD.2 k2 (q, e2) h2
    · exact hA q (Nat.le_trans hS.1 h2)
  refine va_calli (va_runV (As := as) (rest := rest) ⟨hx, hb, hml, hown, hts⟩ (hm l D cs h ad H.size) (cwV np hts hw rfl rfl rfl ⟨hy, by rw [hy]; exact hmh.1, by rw [hy]; exact hmh.2, hnp⟩ ⟨by rw [hfr]; exact hf1, by rw [hlo]; exact hf2⟩) ⟨fun a U g mk q => by obtain ⟨q0, q1, qP, qK, qD⟩ := q; exact ⟨q0, q1, qP, va_K.moved (u := U) (U := U.calling g mk a) (Vm.Alike.refl U.vm) qK, qD⟩, va_recv hK hP (ci := K.2.2.2.1) (q0 := 0) hc rfl, fun U hU hW => ⟨rfl, by rw [hU], by rw [hU]; exact hP, va_K.moved hW.alike hK, hD.weaken (fun _ _ _ _ => trivial)⟩⟩ rfl hn hl.1 rfl (lv_room hcat) d ⟨hmc, hms⟩) hS (fun q _ h => hFc q h) hFc (fun r u t H1 locs1 ht hvm hw1 hB hz1 hk1 hS => ?_)
  obtain ⟨hP1, hK1, hD1⟩ := hB
  rw [ht] at hP1
  exact k r u hw1 H1 locs1 ls ⟨hP1, hD1.weaken (fun k2 q2 _ h2 => hFc _ h2), hS⟩ hl
set_option maxHeartbeats 4000000 in
theorem ob_callv {post : ob_S → Prop} (G : ob_G K X E cc nL fr loc) (hm : ob_MetV K y cc' nL' fr' loc' as S post) (hw : GoodIn lw_all (wsV K.1 idx K.1 y (ws_ y cc' nL' none))) (hy : y.cls = K.1) (hnp : (parseMethodDescriptor y.desc).map (fun d => d.parameters.length) = some np) (hn : as.length = np) (hf : ob_fit fr loc fr' loc' nL' = true) (hst : st = as.reverse ++ .ref (ob_h X) :: rest) (hcat : (rest.map fun v => v.category).sum ≤ 8) (d : decode cc pc = .ok (.invokevirtual idx, 3)) (k : ∀ (S' : ob_S), post S' → gm E nL (ob_I K X S') lv (pc + 3) rest) : gm E nL (ob_I K X S) lv pc st := by
  subst hst
  obtain ⟨p, l, e, R, s, m, args, below, meth, cd, mc, ms, Q⟩ := E
  obtain ⟨D, A, cs, h, ad, H0⟩ := X
  obtain ⟨⟨hx, hb, hml⟩, ⟨hc, hin, hty, hnm, hsm, hN, hpl, hmh, hdc⟩, rfl, hown, hts, hK, hA, hfr, hlo, hmc, hms⟩ := G
  obtain ⟨hf1, hf2⟩ := ob_fit_spec hf
  intro H locs ls hI hl
  obtain ⟨hP, hD, hS⟩ := hI
  have hFc : ∀ q, va_A (ob_W K cs h ad S) H.size q → A q := by
    intro q hq
    rcases hq with ⟨k2, e2, h2⟩ | h2
    · exact hD.2 k2 (q, e2) h2
    · exact hA q (Nat.le_trans hS.1 h2)
  refine va_callv (va_runV (As := as) (rest := rest) ⟨hx, hb, hml, hown, hts⟩ (hm l D cs h ad H.size) (cwV np hts hw rfl rfl rfl ⟨hy, by rw [hy]; exact hmh.1, by rw [hy]; exact hmh.2, hnp⟩ ⟨by rw [hfr]; exact hf1, by rw [hlo]; exact hf2⟩) ⟨fun a U g mk q => by obtain ⟨q0, q1, qP, qK, qD⟩ := q; exact ⟨q0, q1, qP, va_K.moved (u := U) (U := U.calling g mk a) (Vm.Alike.refl U.vm) qK, qD⟩, va_recv hK hP (ci := K.2.2.2.1) (q0 := 0) hc rfl, fun U hU hW => ⟨rfl, by rw [hU], by rw [hU]; exact hP, va_K.moved hW.alike hK, hD.weaken (fun _ _ _ _ => trivial)⟩⟩ rfl hn hl.1 rfl (lv_room hcat) d ⟨hmc, hms⟩) hS (fun q _ h => hFc q h) hFc (fun u t H1 locs1 ht hvm hw1 hB hz1 hk1 hS => ?_)
  obtain ⟨hP1, hK1, hD1⟩ := hB
  rw [ht] at hP1
  exact k u hw1 H1 locs1 ls ⟨hP1, hD1.weaken (fun k2 q2 _ h2 => hFc _ h2), hS⟩ hl
end OC
/-- the two classes -/
abbrev shX1 : List (FieldType × Nat) := [(.byte, 24), (.byte, 24), (.int, 7), (.int, 7), (.short, 128), (.short, 128), (.int, 128), (.byte, 7), (.int, 8)]
abbrev shX2 : List (FieldType × Nat) := [(.int, 24), (.int, 24), (.int, 7), (.int, 7), (.int, 7), (.int, 7), (.int, 7)]
abbrev K1 : ob_K := (RX1, TX1, 11, 0, shX1)
abbrev K2 : ob_K := (RX2, TX2, 9, 1, shX2)
theorem C1 : ob_C K1 := ⟨rfl, in_X1, ⟨tyX1, tyX1_ok⟩, nmX1, by decide, rfl, by decide +kernel, ⟨by decide +kernel, by decide +kernel⟩, by decide +kernel⟩
theorem C2 : ob_C K2 := ⟨rfl, in_X2, ⟨tyX2, tyX2_ok⟩, nmX2, by decide, rfl, by decide +kernel, ⟨by decide +kernel, by decide +kernel⟩, by decide +kernel⟩
end
section
/-! plain words: what the two classes compute -/
set_option maxRecDepth 100000
theorem lq1 {A : Type} (B : Nat) (T V : Nat → A → Prop) (h : ∀ (k : Nat) (x : A), k ≤ B → V k x → (k < B → ∀ x' : A, V (k + 1) x' → T (k + 1) x') → T k x) : ∀ (k : Nat) (x : A), k ≤ B → V k x → T k x := by
  have key : ∀ (d k : Nat) (x : A), d = B - k → k ≤ B → V k x → T k x := by
    intro d
    induction d with
    | zero => intro k x hd hk hv; exact h k x hk hv (fun hlt => by omega)
    | succ d ih => intro k x hd hk hv; exact h k x hk hv (fun hlt x' hv' => ih (k + 1) x' (by omega) (by omega) hv')
  exact fun k x hk hv => key _ k x rfl hk hv
theorem lq2 {A A2 : Type} (B : Nat) (T V : Nat → A → A2 → Prop) (h : ∀ (k : Nat) (x : A) (y : A2), k ≤ B → V k x y → (k < B → ∀ (x' : A) (y' : A2), V (k + 1) x' y' → T (k + 1) x' y') → T k x y) : ∀ (k : Nat) (x : A) (y : A2), k ≤ B → V k x y → T k x y := by
  have key : ∀ (d k : Nat) (x : A) (y : A2), d = B - k → k ≤ B → V k x y → T k x y := by
    intro d
    induction d with
    | zero => intro k x y hd hk hv; exact h k x y hk hv (fun hlt => by omega)
    | succ d ih => intro k x y hd hk hv; exact h k x y hk hv (fun hlt x' y' hv' => ih (k + 1) x' y' (by omega) (by omega) hv')
  exact fun k x y hk hv => key _ k x y rfl hk hv
theorem up_s {F F1 : Nat → Nat → Int32} {j : Nat} {gg : Nat → Int32} (h : va_up F j gg = F1) : F1 j = gg := by rw [← h]; exact va_up_self F j gg
theorem up_n {F F1 : Nat → Nat → Int32} {j : Nat} {gg : Nat → Int32} (h : va_up F j gg = F1) {k : Nat} (hk : k ≠ j) : F1 k = F k := by rw [← h]; exact va_up_ne F gg hk
theorem upd_s (f : Nat → Int32) (k : Nat) (x : Int32) : upd f k x k = x := by simp [upd]
theorem upd_n (f : Nat → Int32) {k j : Nat} (x : Int32) (h : j ≠ k) : upd f k x j = f j := by simp [upd, h]
def fac : Nat → Nat
  | 0 => 1
  | k + 1 => fac k * (k + 1)
def ok_net (N C : Nat) (lo hi : Nat → Nat) : Prop := 2 ≤ N ∧ N ≤ 7 ∧ C ≤ 24 ∧ ∀ k, k < C → lo k < N ∧ hi k < N ∧ lo k ≠ hi k
/-- the arrays that both classes hold alike: comparators, inputs -/
def mF (F : Nat → Nat → Int32) (N C : Nat) (lo hi : Nat → Nat) (gv : Nat → Int32) : Prop := (∀ k, k < C → F 0 k = nI (lo k) ∧ F 1 k = nI (hi k)) ∧ (∀ w, w < N → F 2 w = gv w)
def xF (F : Nat → Nat → Int32) (N C : Nat) (lo hi : Nat → Nat) (gv : Nat → Int32) : Prop := mF F N C lo hi gv ∧ (∀ k, k < 8 → F 8 k = nI (fac k))
theorem mF_fr {F F' : Nat → Nat → Int32} {N C : Nat} {lo hi : Nat → Nat} {gv : Nat → Int32} (h0 : F' 0 = F 0) (h1 : F' 1 = F 1) (h2 : F' 2 = F 2) (h : mF F N C lo hi gv) : mF F' N C lo hi gv := by
  unfold mF at h ⊢
  rw [h0, h1, h2]
  exact h
theorem xF_fr {F F' : Nat → Nat → Int32} {N C : Nat} {lo hi : Nat → Nat} {gv : Nat → Int32} (h0 : F' 0 = F 0) (h1 : F' 1 = F 1) (h2 : F' 2 = F 2) (h8 : F' 8 = F 8) (h : xF F N C lo hi gv) : xF F' N C lo hi gv := by
  refine ⟨mF_fr h0 h1 h2 h.1, ?_⟩
  rw [h8]
  exact h.2
def bw (n w : Int32) : Nat := if w < 0 ∨ n ≤ w then 1 else 0
theorem bw_lt (n w : Int32) : bw n w < 2147483648 := by unfold bw; split <;> decide
theorem bw_1 {n w : Int32} (h : w < 0 ∨ n ≤ w) : bw n w = 1 := by unfold bw; rw [if_pos h]
theorem bw_0 {n w : Int32} (h1 : ¬ w < 0) (h2 : ¬ n ≤ w) : bw n w = 0 := by unfold bw; rw [if_neg (fun h => h.elim h1 h2)]
theorem bw_in {M : Nat} {w : Int32} (hM : M < 2147483648) (h : bw (nI M) w = 0) : ∃ a : Nat, a < M ∧ w = nI a := by
  unfold bw at h
  rcases pk_ix w (n := M) hM with q | q | q
  · rw [if_pos (Or.inl q)] at h; cases h
  · rw [if_pos (Or.inr q)] at h; cases h
  · exact q
theorem bw_nI {M a : Nat} (hM : M < 2147483648) (h : a < M) : bw (nI M) (nI a) = 0 := bw_0 (nI_pos (by omega)) (nI_ge h hM)
theorem i_nle {x y : Int32} : ¬ x ≤ y ↔ y < x := by rw [Int32.not_le]
theorem i_nlt {x y : Int32} : ¬ x < y ↔ y ≤ x := by rw [Int32.not_lt]
/-- add, drop, swap, turn: answer, count, low, high -/
abbrev p_R : Type := Int32 × Nat × (Nat → Nat) × (Nat → Nat)
def p_add (N C : Nat) (lo hi : Nat → Nat) (i j : Int32) : p_R := if bw (nI N) i ≠ 0 ∨ bw (nI N) j ≠ 0 ∨ i = j then (-1, C, lo, hi) else if C = 24 then (-2, C, lo, hi) else (nI (C + 1), C + 1, va_up lo C i.toNatClampNeg, va_up hi C j.toNatClampNeg)
def p_drop (C : Nat) (lo hi : Nat → Nat) (k : Int32) : p_R := if bw (nI C) k ≠ 0 then (-4, C, lo, hi) else (nI (C - 1), C - 1, fun x => if k.toNatClampNeg ≤ x then lo (x + 1) else lo x, fun x => if k.toNatClampNeg ≤ x then hi (x + 1) else hi x)
def p_swap (C : Nat) (lo hi : Nat → Nat) (k : Int32) : p_R := if k < 0 ∨ nI C - nI 1 ≤ k then (-4, C, lo, hi) else (nI 0, C, va_up (va_up lo k.toNatClampNeg (lo (k.toNatClampNeg + 1))) (k.toNatClampNeg + 1) (lo k.toNatClampNeg), va_up (va_up hi k.toNatClampNeg (hi (k.toNatClampNeg + 1))) (k.toNatClampNeg + 1) (hi k.toNatClampNeg))
def p_turn (N C : Nat) (lo hi : Nat → Nat) : p_R := (nI C, C, fun k => N - 1 - hi k, fun k => N - 1 - lo k)
theorem sw_in {C : Nat} {k : Int32} (hC : C ≤ 24) (h0 : ¬ k < 0) (h : k < nI C - nI 1) : ∃ a : Nat, a + 1 < C ∧ k = nI a := by
  obtain ⟨j, hj, rfl⟩ := nI_of h0
  by_cases hc : 1 ≤ C
  · rw [pk_sub hc] at h
    have := (nI_ltI hj (by omega)).mp h
    exact ⟨j, by omega, rfl⟩
  · have e : C = 0 := by omega
    subst e
    exfalso
    have h2 : nI 0 - nI 1 < 0 := by decide
    exact h0 (Int32.lt_trans h h2)
theorem ok_add {N C : Nat} {lo hi : Nat → Nat} (h : ok_net N C lo hi) {a b : Nat} (ha : a < N) (hb : b < N) (hab : a ≠ b) (hC : C ≠ 24) : ok_net N (C + 1) (va_up lo C a) (va_up hi C b) := by
  obtain ⟨h1, h2, h3, h4⟩ := h
  refine ⟨h1, h2, by omega, fun k hk => ?_⟩
  by_cases e : k = C
  · subst e
    rw [va_up_self, va_up_self]
    exact ⟨ha, hb, hab⟩
  · rw [va_up_ne _ _ e, va_up_ne _ _ e]
    exact h4 k (by omega)
theorem mF_add {F F1 F2 : Nat → Nat → Int32} {N C : Nat} {lo hi : Nat → Nat} {gv : Nat → Int32} {a b : Nat} (h : mF F N C lo hi gv) (h1 : va_up F 0 (upd (F 0) C (nI a)) = F1) (h2 : va_up F1 1 (upd (F1 1) C (nI b)) = F2) : mF F2 N (C + 1) (va_up lo C a) (va_up hi C b) gv := by
  refine ⟨fun k hk => ?_, fun w hw => ?_⟩
  · rw [up_n h2 (by decide), up_s h1, up_s h2, up_n h1 (by decide)]
    by_cases e : k = C
    · subst e
      rw [va_up_self, va_up_self, upd_s, upd_s]
      exact ⟨rfl, rfl⟩
    · rw [va_up_ne _ _ e, va_up_ne _ _ e, upd_n _ _ e, upd_n _ _ e]
      exact h.1 k (by omega)
  · rw [up_n h2 (by decide), up_n h1 (by decide)]
    exact h.2 w hw
theorem ok_drop {N C : Nat} {lo hi : Nat → Nat} (h : ok_net N C lo hi) {a : Nat} (ha : a < C) : ok_net N (C - 1) (fun x => if a ≤ x then lo (x + 1) else lo x) (fun x => if a ≤ x then hi (x + 1) else hi x) := by
  obtain ⟨h1, h2, h3, h4⟩ := h
  refine ⟨h1, h2, by omega, fun k hk => ?_⟩
  by_cases e : a ≤ k
  · simp only [if_pos e]
    exact h4 (k + 1) (by omega)
  · simp only [if_neg e]
    exact h4 k (by omega)
theorem dr_step {f f0 : Nat → Int32} {a i : Nat} {v : Int32} (h : ∀ x, f x = if a ≤ x ∧ x < i then f0 (x + 1) else f0 x) (ha : a ≤ i) (hv : v = f0 (i + 1)) : ∀ x, upd f i v x = if a ≤ x ∧ x < i + 1 then f0 (x + 1) else f0 x := by
  intro x
  by_cases e : x = i
  · subst e
    rw [upd_s, if_pos ⟨ha, by omega⟩]
    exact hv
  · rw [upd_n _ _ e, h x]
    by_cases q : a ≤ x ∧ x < i
    · rw [if_pos q, if_pos ⟨q.1, by omega⟩]
    · rw [if_neg q, if_neg (fun z => q ⟨z.1, by omega⟩)]
theorem mF_drop {F F' : Nat → Nat → Int32} {N C : Nat} {lo hi : Nat → Nat} {gv : Nat → Int32} {a : Nat} (h : mF F N C lo hi gv) (h0 : ∀ x, F' 0 x = if a ≤ x ∧ x < C - 1 then F 0 (x + 1) else F 0 x) (h1 : ∀ x, F' 1 x = if a ≤ x ∧ x < C - 1 then F 1 (x + 1) else F 1 x) (h2 : F' 2 = F 2) : mF F' N (C - 1) (fun x => if a ≤ x then lo (x + 1) else lo x) (fun x => if a ≤ x then hi (x + 1) else hi x) gv := by
  refine ⟨fun k hk => ?_, fun w hw => by rw [h2]; exact h.2 w hw⟩
  rw [h0, h1]
  by_cases e : a ≤ k
  · rw [if_pos ⟨e, hk⟩, if_pos ⟨e, hk⟩]
    simp only [if_pos e]
    exact h.1 (k + 1) (by omega)
  · rw [if_neg (fun z => e z.1), if_neg (fun z => e z.1)]
    simp only [if_neg e]
    exact h.1 k (by omega)
theorem ok_swap {N C : Nat} {lo hi : Nat → Nat} (h : ok_net N C lo hi) {a : Nat} (ha : a + 1 < C) : ok_net N C (va_up (va_up lo a (lo (a + 1))) (a + 1) (lo a)) (va_up (va_up hi a (hi (a + 1))) (a + 1) (hi a)) := by
  obtain ⟨h1, h2, h3, h4⟩ := h
  refine ⟨h1, h2, h3, fun k hk => ?_⟩
  by_cases e : k = a + 1
  · subst e
    rw [va_up_self, va_up_self]
    exact h4 a (by omega)
  · rw [va_up_ne _ _ e, va_up_ne _ _ e]
    by_cases e2 : k = a
    · subst e2
      rw [va_up_self, va_up_self]
      exact h4 (k + 1) ha
    · rw [va_up_ne _ _ e2, va_up_ne _ _ e2]
      exact h4 k hk
theorem mF_swap {F F1 F2 F3 F4 : Nat → Nat → Int32} {N C : Nat} {lo hi : Nat → Nat} {gv : Nat → Int32} {a : Nat} (h : mF F N C lo hi gv) (ha : a + 1 < C) (h1 : va_up F 0 (upd (F 0) a (nI (lo (a + 1)))) = F1) (h2 : va_up F1 1 (upd (F1 1) a (nI (hi (a + 1)))) = F2) (h3 : va_up F2 0 (upd (F2 0) (a + 1) (nI (lo a))) = F3) (h4 : va_up F3 1 (upd (F3 1) (a + 1) (nI (hi a))) = F4) : mF F4 N C (va_up (va_up lo a (lo (a + 1))) (a + 1) (lo a)) (va_up (va_up hi a (hi (a + 1))) (a + 1) (hi a)) gv := by
  refine ⟨fun k hk => ?_, fun w hw => ?_⟩
  · rw [up_n h4 (by decide), up_s h3, up_n h2 (by decide), up_s h1, up_s h4, up_n h3 (by decide), up_s h2, up_n h1 (by decide)]
    by_cases e : k = a + 1
    · subst e
      rw [va_up_self, va_up_self, upd_s, upd_s]
      exact ⟨rfl, rfl⟩
    · rw [va_up_ne _ _ e, va_up_ne _ _ e, upd_n _ _ e, upd_n _ _ e]
      by_cases e2 : k = a
      · subst e2
        rw [va_up_self, va_up_self, upd_s, upd_s]
        exact ⟨rfl, rfl⟩
      · rw [va_up_ne _ _ e2, va_up_ne _ _ e2, upd_n _ _ e2, upd_n _ _ e2]
        exact h.1 k hk
  · rw [up_n h4 (by decide), up_n h3 (by decide), up_n h2 (by decide), up_n h1 (by decide)]
    exact h.2 w hw
theorem ok_turn {N C : Nat} {lo hi : Nat → Nat} (h : ok_net N C lo hi) : ok_net N C (fun k => N - 1 - hi k) (fun k => N - 1 - lo k) := by
  obtain ⟨h1, h2, h3, h4⟩ := h
  refine ⟨h1, h2, h3, fun k hk => ?_⟩
  have := h4 k hk
  refine ⟨?_, ?_, ?_⟩
  · show N - 1 - hi k < N; omega
  · show N - 1 - lo k < N; omega
  · show N - 1 - hi k ≠ N - 1 - lo k; omega
theorem tn_step {F F1 F2 : Nat → Nat → Int32} {N C k : Nat} {lo hi : Nat → Nat} (h : ∀ x, x < C → F 0 x = nI (if x < k then N - 1 - hi x else lo x) ∧ F 1 x = nI (if x < k then N - 1 - lo x else hi x)) (h1 : va_up F 0 (upd (F 0) k (nI (N - 1 - hi k))) = F1) (h2 : va_up F1 1 (upd (F1 1) k (nI (N - 1 - lo k))) = F2) : ∀ x, x < C → F2 0 x = nI (if x < k + 1 then N - 1 - hi x else lo x) ∧ F2 1 x = nI (if x < k + 1 then N - 1 - lo x else hi x) := by
  intro x hx
  rw [up_n h2 (by decide), up_s h1, up_s h2, up_n h1 (by decide)]
  by_cases e : x = k
  · subst e
    rw [upd_s, upd_s, if_pos (by omega), if_pos (by omega)]
    exact ⟨rfl, rfl⟩
  · rw [upd_n _ _ e, upd_n _ _ e, (h x hx).1, (h x hx).2]
    by_cases q : x < k
    · rw [if_pos q, if_pos q, if_pos (by omega), if_pos (by omega)]
      exact ⟨rfl, rfl⟩
    · rw [if_neg q, if_neg q, if_neg (by omega), if_neg (by omega)]
      exact ⟨rfl, rfl⟩
theorem mF_turn {F F' : Nat → Nat → Int32} {N C : Nat} {lo hi : Nat → Nat} {gv : Nat → Int32} (h : mF F N C lo hi gv) (h0 : ∀ x, x < C → F' 0 x = nI (if x < C then N - 1 - hi x else lo x) ∧ F' 1 x = nI (if x < C then N - 1 - lo x else hi x)) (h2 : F' 2 = F 2) : mF F' N C (fun k => N - 1 - hi k) (fun k => N - 1 - lo k) gv := by
  refine ⟨fun k hk => ?_, fun w hw => by rw [h2]; exact h.2 w hw⟩
  have := h0 k hk
  rw [if_pos hk, if_pos hk] at this
  exact this
theorem mF_input {F F1 : Nat → Nat → Int32} {N C : Nat} {lo hi : Nat → Nat} {gv : Nat → Int32} {a : Nat} {v : Int32} (h : mF F N C lo hi gv) (h1 : va_up F 2 (upd (F 2) a v) = F1) : mF F1 N C lo hi (upd gv a v) := by
  refine ⟨fun k hk => ?_, fun w hw => ?_⟩
  · rw [up_n h1 (by decide), up_n h1 (by decide)]
    exact h.1 k hk
  · rw [up_s h1]
    by_cases e : w = a
    · subst e; rw [upd_s, upd_s]
    · rw [upd_n _ _ e, upd_n _ _ e]; exact h.2 w hw
/-- one comparator on the wires; a run of the first k, some left out; how many exchange -/
def cmI (i j : Nat) (v : Nat → Int32) : Nat → Int32 := if v j < v i then upd (upd v i (v j)) j (v i) else v
def wrun (lo hi : Nat → Nat) (sk : Nat → Bool) : Nat → (Nat → Int32) → Nat → Int32
  | 0, v => v
  | k + 1, v => if sk k = true then wrun lo hi sk k v else cmI (lo k) (hi k) (wrun lo hi sk k v)
def nsk : Nat → Bool := fun _ => false
def xcnt (lo hi : Nat → Nat) : Nat → (Nat → Int32) → Nat
  | 0, _ => 0
  | k + 1, v => xcnt lo hi k v + (if wrun lo hi nsk k v (hi k) < wrun lo hi nsk k v (lo k) then 1 else 0)
theorem xcnt_le (lo hi : Nat → Nat) (v : Nat → Int32) : ∀ k, xcnt lo hi k v ≤ k := by
  intro k
  induction k with
  | zero => exact Nat.le_refl 0
  | succ k ih =>
    show xcnt lo hi k v + _ ≤ k + 1
    split <;> omega
theorem wrun_s (lo hi : Nat → Nat) (k : Nat) (v : Nat → Int32) : wrun lo hi nsk (k + 1) v = cmI (lo k) (hi k) (wrun lo hi nsk k v) := by
  show (if nsk k = true then _ else _) = _
  rw [if_neg (by simp [nsk])]
/-- the wires' array goes on as the run does -/
theorem cm_t {N i j : Nat} {f v : Nat → Int32} (hi : i < N) (hj : j < N) (h : ∀ w, w < N → f w = v w) (c : v j < v i) : ∀ w, w < N → upd (upd f i (v j)) j (v i) w = cmI i j v w := by
  intro w hw
  unfold cmI
  rw [if_pos c]
  by_cases e : w = j
  · subst e; rw [upd_s, upd_s]
  · rw [upd_n _ _ e, upd_n _ _ e]
    by_cases e2 : w = i
    · subst e2; rw [upd_s, upd_s]
    · rw [upd_n _ _ e2, upd_n _ _ e2]; exact h w hw
theorem cm_f {N i j : Nat} {f v : Nat → Int32} (h : ∀ w, w < N → f w = v w) (c : ¬ v j < v i) : ∀ w, w < N → f w = cmI i j v w := by
  intro w hw
  unfold cmI
  rw [if_neg c]
  exact h w hw
/-- rounds: the wires' last rounds, and the most, behind the first k -/
def rdl (lo hi : Nat → Nat) : Nat → Nat → Nat
  | 0, _ => 0
  | k + 1, w => if w = hi k ∨ w = lo k then (if rdl lo hi k (hi k) < rdl lo hi k (lo k) then rdl lo hi k (lo k) else rdl lo hi k (hi k)) + 1 else rdl lo hi k w
def rdm (lo hi : Nat → Nat) : Nat → Nat
  | 0 => 0
  | k + 1 => if rdm lo hi k < (if rdl lo hi k (hi k) < rdl lo hi k (lo k) then rdl lo hi k (lo k) else rdl lo hi k (hi k)) + 1 then (if rdl lo hi k (hi k) < rdl lo hi k (lo k) then rdl lo hi k (lo k) else rdl lo hi k (hi k)) + 1 else rdm lo hi k
theorem rdl_le (lo hi : Nat → Nat) : ∀ k w, rdl lo hi k w ≤ k := by
  intro k
  induction k with
  | zero => intro w; exact Nat.le_refl 0
  | succ k ih =>
    intro w
    have h1 := ih (hi k)
    have h2 := ih (lo k)
    have h3 := ih w
    show (if w = hi k ∨ w = lo k then _ else _) ≤ k + 1
    split
    · split <;> omega
    · omega
def rdx (lo hi : Nat → Nat) (k : Nat) : Nat := if rdl lo hi k (hi k) < rdl lo hi k (lo k) then rdl lo hi k (lo k) else rdl lo hi k (hi k)
theorem rdx_le (lo hi : Nat → Nat) (k : Nat) : rdx lo hi k ≤ k := by
  have h1 := rdl_le lo hi k (hi k)
  have h2 := rdl_le lo hi k (lo k)
  unfold rdx
  split <;> omega
theorem rdm_s (lo hi : Nat → Nat) (k : Nat) : rdm lo hi (k + 1) = if rdm lo hi k < rdx lo hi k + 1 then rdx lo hi k + 1 else rdm lo hi k := rfl
theorem rdl_s (lo hi : Nat → Nat) (k w : Nat) : rdl lo hi (k + 1) w = if w = hi k ∨ w = lo k then rdx lo hi k + 1 else rdl lo hi k w := rfl
theorem rdm_le (lo hi : Nat → Nat) : ∀ k, rdm lo hi k ≤ k := by
  intro k
  induction k with
  | zero => exact Nat.le_refl 0
  | succ k ih =>
    have h1 := rdx_le lo hi k
    rw [rdm_s]
    split <;> omega
theorem rd_step {N k : Nat} {lo hi : Nat → Nat} {f : Nat → Int32} (h : ∀ w, w < N → f w = nI (rdl lo hi k w)) : ∀ w, w < N → upd (upd f (lo k) (nI (rdx lo hi k + 1))) (hi k) (nI (rdx lo hi k + 1)) w = nI (rdl lo hi (k + 1) w) := by
  intro w hw
  rw [rdl_s]
  by_cases e : w = hi k
  · rw [if_pos (Or.inl e), e, upd_s]
  · rw [upd_n _ _ e]
    by_cases e2 : w = lo k
    · rw [if_pos (Or.inr e2), e2, upd_s]
    · rw [upd_n _ _ e2, if_neg (fun z => z.elim e e2)]
      exact h w hw
/-- sets of wires -/
def bsw (i j s : Nat) : Nat := if s / 2 ^ j % 2 < s / 2 ^ i % 2 then s ^^^ (2 ^ i ||| 2 ^ j) else s
def zrun (lo hi : Nat → Nat) (sk : Nat → Bool) : Nat → Nat → Nat
  | 0, s => s
  | k + 1, s => if sk k = true then zrun lo hi sk k s else bsw (lo k) (hi k) (zrun lo hi sk k s)
theorem pw_lt {i N : Nat} (h : i < N) : 2 ^ i < 2 ^ N := Nat.pow_lt_pow_right (by decide) h
theorem bsw_lt {N i j s : Nat} (hi : i < N) (hj : j < N) (hs : s < 2 ^ N) : bsw i j s < 2 ^ N := by
  unfold bsw
  split
  · exact Nat.xor_lt_two_pow hs (Nat.or_lt_two_pow (pw_lt hi) (pw_lt hj))
  · exact hs
theorem zrun_lt {N C : Nat} {lo hi : Nat → Nat} (sk : Nat → Bool) (h : ∀ k, k < C → lo k < N ∧ hi k < N ∧ lo k ≠ hi k) {s : Nat} (hs : s < 2 ^ N) : ∀ k, k ≤ C → zrun lo hi sk k s < 2 ^ N := by
  intro k
  induction k with
  | zero => intro _; exact hs
  | succ k ih =>
    intro hk
    show (if sk k = true then _ else _) < 2 ^ N
    have h1 := h k (by omega)
    split
    · exact ih (by omega)
    · exact bsw_lt h1.1 h1.2.1 (ih (by omega))
theorem pw_128 {N : Nat} (h : N ≤ 7) : 2 ^ N ≤ 128 := Nat.pow_le_pow_right (n := 2) (by decide) h
theorem pw_896 {N : Nat} (h : N ≤ 7) : N * 2 ^ N ≤ 896 := Nat.mul_le_mul h (pw_128 h)
theorem pw_pos (N : Nat) : 0 < 2 ^ N := Nat.two_pow_pos N
def szo (s : Nat) : Nat → Nat
  | 0 => 0
  | w + 1 => szo s w + s / 2 ^ w % 2
theorem szo_le (s : Nat) : ∀ w, szo s w ≤ w := by
  intro w
  induction w with
  | zero => exact Nat.le_refl 0
  | succ w ih =>
    show szo s w + s / 2 ^ w % 2 ≤ w + 1
    omega
def ord (N s : Nat) : Nat := fac (szo s N) * fac (N - 1 - szo s N)
def inpl (N : Nat) (z : Nat → Nat) (s : Nat) : Bool := z s == 2 ^ N - 2 ^ (N - szo s N)
def sumf (f : Nat → Nat) : Nat → Nat
  | 0 => 0
  | k + 1 => sumf f k + f k
/-- chains up to a set: what the array of chains holds -/
def csum (s : Nat) (c : Nat → Nat) : Nat → Nat
  | 0 => 0
  | w + 1 => csum s c w + (if s / 2 ^ w % 2 = 1 then c (s ^^^ 2 ^ w) else 0)
def chn (N : Nat) (gd : Nat → Bool) (B : Nat) (c : Nat → Nat) : Prop := c 0 = 1 ∧ ∀ s, 0 < s → s < B → c s = if gd s = true then csum s c N else 0
def rkc (N : Nat) (z : Nat → Nat) (w r k : Nat) : Nat := if (k / N / 2 ^ (k % N) % 2 = 0 ∧ szo (k / N) N = N - r) ∧ z (k / N) / 2 ^ w % 2 ≠ z (k / N ||| 2 ^ (k % N)) / 2 ^ w % 2 then ord N (k / N) else 0
def lsc (N : Nat) (z : Nat → Nat) (v w k : Nat) : Nat := if k / N / 2 ^ (k % N) % 2 = 0 ∧ z (k / N) / 2 ^ w % 2 = 0 ∧ z (k / N ||| 2 ^ (k % N)) / 2 ^ w % 2 = 1 ∧ z (k / N ||| 2 ^ (k % N)) / 2 ^ v % 2 = 0 then ord N (k / N) else 0
theorem xor_bit_lt : ∀ s, s < 128 → ∀ w, w < 7 → s / 2 ^ w % 2 = 1 → s ^^^ 2 ^ w < s := by decide +kernel
theorem csum_congr {s : Nat} {c c' : Nat → Nat} (hs : s < 128) (h : ∀ x, x < s → c x = c' x) : ∀ n, n ≤ 7 → csum s c n = csum s c' n := by
  intro n
  induction n with
  | zero => intro _; rfl
  | succ n ih =>
    intro hn
    show csum s c n + _ = csum s c' n + _
    rw [ih (by omega)]
    by_cases q : s / 2 ^ n % 2 = 1
    · rw [if_pos q, if_pos q, h _ (xor_bit_lt s hs n (by omega) q)]
    · rw [if_neg q, if_neg q]
theorem chn_step {N : Nat} {gd : Nat → Bool} {B : Nat} {c : Nat → Nat} (hN : N ≤ 7) (hB2 : B < 128) (h : chn N gd B c) (hB : 0 < B) : chn N gd (B + 1) (va_up c B (if gd B = true then csum B c N else 0)) := by
  refine ⟨?_, fun s h0 hs => ?_⟩
  · rw [va_up_ne _ _ (by omega)]; exact h.1
  · by_cases e : s = B
    · subst e
      rw [va_up_self, csum_congr (c' := c) hB2 (fun x hx => va_up_ne _ _ (by omega)) N hN]
    · rw [va_up_ne _ _ e, csum_congr (c' := c) (by omega) (fun x hx => va_up_ne _ _ (by omega)) N hN]
      exact h.2 s h0 (by omega)
end
section
set_option maxRecDepth 100000
theorem wX1_badWire : GoodIn lw_all (wsV RX1 43 RX1 yX1_badWire (ws_ yX1_badWire cX1_badWire 2 (some .boolean))) := lw_V q70 q72 qs0 q19 q73
theorem npX1_badWire : (parseMethodDescriptor yX1_badWire.desc).map (fun d => d.parameters.length) = some 1 := by decide +kernel
theorem wX1_pass : GoodIn lw_all (wsV RX1 50 RX1 yX1_pass (ws_ yX1_pass cX1_pass 5 (some .int))) := lw_V q98 q100 qs1 q19 q101
theorem npX1_pass : (parseMethodDescriptor yX1_pass.desc).map (fun d => d.parameters.length) = some 0 := by decide +kernel
theorem wX1_behind : GoodIn lw_all (wsV RX1 54 RX1 yX1_behind (ws_ yX1_behind cX1_behind 5 (some .int))) := lw_V q114 q116 qs3 q19 q117
theorem npX1_behind : (parseMethodDescriptor yX1_behind.desc).map (fun d => d.parameters.length) = some 2 := by decide +kernel
theorem wX1_sizeOf : GoodIn lw_all (wsV RX1 58 RX1 yX1_sizeOf (ws_ yX1_sizeOf cX1_sizeOf 4 (some .int))) := lw_V q122 q124 qs5 q19 q125
theorem npX1_sizeOf : (parseMethodDescriptor yX1_sizeOf.desc).map (fun d => d.parameters.length) = some 1 := by decide +kernel
theorem wX1_findSets : GoodIn lw_all (wsV RX1 62 RX1 yX1_findSets (ws_ yX1_findSets cX1_findSets 6 none)) := lw_V q110 q112 qs2 q19 q113
theorem npX1_findSets : (parseMethodDescriptor yX1_findSets.desc).map (fun d => d.parameters.length) = some 2 := by decide +kernel
theorem wX1_inPlace : GoodIn lw_all (wsV RX1 66 RX1 yX1_inPlace (ws_ yX1_inPlace cX1_inPlace 3 (some .boolean))) := lw_V q118 q120 qs4 q19 q121
theorem npX1_inPlace : (parseMethodDescriptor yX1_inPlace.desc).map (fun d => d.parameters.length) = some 1 := by decide +kernel
theorem wX1_ordersAt : GoodIn lw_all (wsV RX1 69 RX1 yX1_ordersAt (ws_ yX1_ordersAt cX1_ordersAt 3 (some .int))) := lw_V q134 q136 qs6 q19 q137
theorem npX1_ordersAt : (parseMethodDescriptor yX1_ordersAt.desc).map (fun d => d.parameters.length) = some 1 := by decide +kernel
theorem wX1_lessOn : GoodIn lw_all (wsV RX1 72 RX1 yX1_lessOn (ws_ yX1_lessOn cX1_lessOn 10 (some .int))) := lw_V q142 q144 qs7 q19 q145
theorem npX1_lessOn : (parseMethodDescriptor yX1_lessOn.desc).map (fun d => d.parameters.length) = some 2 := by decide +kernel
theorem wX1_sameWithout : GoodIn lw_all (wsV RX1 75 RX1 yX1_sameWithout (ws_ yX1_sameWithout cX1_sameWithout 4 (some .boolean))) := lw_V q154 q156 qs8 q19 q157
theorem npX1_sameWithout : (parseMethodDescriptor yX1_sameWithout.desc).map (fun d => d.parameters.length) = some 1 := by decide +kernel
theorem wLX1_add : GoodIn lw_all (wsV RX0 21 RX1 yX1_add (ws_ yX1_add cX1_add 3 (some .int))) := lw_V q66 q67 q68 q19 q69
theorem npX1_add : (parseMethodDescriptor yX1_add.desc).map (fun d => d.parameters.length) = some 2 := by decide +kernel
theorem wLX2_add : GoodIn lw_all (wsV RX0 25 RX2 yX2_add (ws_ yX2_add cX2_add 3 (some .int))) := lw_V q199 q200 q201 q20 q202
theorem npX2_add : (parseMethodDescriptor yX2_add.desc).map (fun d => d.parameters.length) = some 2 := by decide +kernel
theorem wLX1_drop : GoodIn lw_all (wsV RX0 26 RX1 yX1_drop (ws_ yX1_drop cX1_drop 3 (some .int))) := lw_V q74 q75 q76 q19 q77
theorem npX1_drop : (parseMethodDescriptor yX1_drop.desc).map (fun d => d.parameters.length) = some 1 := by decide +kernel
theorem wLX2_drop : GoodIn lw_all (wsV RX0 30 RX2 yX2_drop (ws_ yX2_drop cX2_drop 3 (some .int))) := lw_V q207 q208 q209 q20 q210
theorem npX2_drop : (parseMethodDescriptor yX2_drop.desc).map (fun d => d.parameters.length) = some 1 := by decide +kernel
theorem wLX1_swap : GoodIn lw_all (wsV RX0 31 RX1 yX1_swap (ws_ yX1_swap cX1_swap 4 (some .int))) := lw_V q78 q79 q80 q19 q81
theorem npX1_swap : (parseMethodDescriptor yX1_swap.desc).map (fun d => d.parameters.length) = some 1 := by decide +kernel
theorem wLX2_swap : GoodIn lw_all (wsV RX0 34 RX2 yX2_swap (ws_ yX2_swap cX2_swap 4 (some .int))) := lw_V q215 q216 q217 q20 q218
theorem npX2_swap : (parseMethodDescriptor yX2_swap.desc).map (fun d => d.parameters.length) = some 1 := by decide +kernel
theorem wLX1_turn : GoodIn lw_all (wsV RX0 35 RX1 yX1_turn (ws_ yX1_turn cX1_turn 3 (some .int))) := lw_V q82 q83 q84 q19 q85
theorem npX1_turn : (parseMethodDescriptor yX1_turn.desc).map (fun d => d.parameters.length) = some 0 := by decide +kernel
theorem wLX2_turn : GoodIn lw_all (wsV RX0 39 RX2 yX2_turn (ws_ yX2_turn cX2_turn 3 (some .int))) := lw_V q219 q220 q221 q20 q222
theorem npX2_turn : (parseMethodDescriptor yX2_turn.desc).map (fun d => d.parameters.length) = some 0 := by decide +kernel
theorem wLX1_size : GoodIn lw_all (wsV RX0 40 RX1 yX1_size (ws_ yX1_size cX1_size 1 (some .int))) := lw_V q86 q87 q88 q19 q89
theorem npX1_size : (parseMethodDescriptor yX1_size.desc).map (fun d => d.parameters.length) = some 0 := by decide +kernel
theorem wLX2_size : GoodIn lw_all (wsV RX0 43 RX2 yX2_size (ws_ yX2_size cX2_size 1 (some .int))) := lw_V q223 q224 q225 q20 q226
theorem npX2_size : (parseMethodDescriptor yX2_size.desc).map (fun d => d.parameters.length) = some 0 := by decide +kernel
theorem wLX1_input : GoodIn lw_all (wsV RX0 44 RX1 yX1_input (ws_ yX1_input cX1_input 3 (some .int))) := lw_V q90 q91 q92 q19 q93
theorem npX1_input : (parseMethodDescriptor yX1_input.desc).map (fun d => d.parameters.length) = some 2 := by decide +kernel
theorem wLX2_input : GoodIn lw_all (wsV RX0 47 RX2 yX2_input (ws_ yX2_input cX2_input 3 (some .int))) := lw_V q227 q228 q229 q20 q230
theorem npX2_input : (parseMethodDescriptor yX2_input.desc).map (fun d => d.parameters.length) = some 2 := by decide +kernel
theorem wLX1_output : GoodIn lw_all (wsV RX0 48 RX1 yX1_output (ws_ yX1_output cX1_output 2 (some .int))) := lw_V q94 q95 q96 q19 q97
theorem npX1_output : (parseMethodDescriptor yX1_output.desc).map (fun d => d.parameters.length) = some 1 := by decide +kernel
theorem wLX2_output : GoodIn lw_all (wsV RX0 51 RX2 yX2_output (ws_ yX2_output cX2_output 3 (some .int))) := lw_V q231 q232 q233 q20 q234
theorem npX2_output : (parseMethodDescriptor yX2_output.desc).map (fun d => d.parameters.length) = some 1 := by decide +kernel
theorem wLX1_exchanges : GoodIn lw_all (wsV RX0 52 RX1 yX1_exchanges (ws_ yX1_exchanges cX1_exchanges 1 (some .int))) := lw_V q102 q103 q104 q19 q105
theorem npX1_exchanges : (parseMethodDescriptor yX1_exchanges.desc).map (fun d => d.parameters.length) = some 0 := by decide +kernel
theorem wLX2_exchanges : GoodIn lw_all (wsV RX0 55 RX2 yX2_exchanges (ws_ yX2_exchanges cX2_exchanges 4 (some .int))) := lw_V q239 q240 q241 q20 q242
theorem npX2_exchanges : (parseMethodDescriptor yX2_exchanges.desc).map (fun d => d.parameters.length) = some 0 := by decide +kernel
theorem wLX1_sorts : GoodIn lw_all (wsV RX0 56 RX1 yX1_sorts (ws_ yX1_sorts cX1_sorts 4 (some .int))) := lw_V q106 q107 q108 q19 q109
theorem npX1_sorts : (parseMethodDescriptor yX1_sorts.desc).map (fun d => d.parameters.length) = some 0 := by decide +kernel
theorem wLX2_sorts : GoodIn lw_all (wsV RX0 59 RX2 yX2_sorts (ws_ yX2_sorts cX2_sorts 2 (some .int))) := lw_V q243 q244 q245 q20 q246
theorem npX2_sorts : (parseMethodDescriptor yX2_sorts.desc).map (fun d => d.parameters.length) = some 0 := by decide +kernel
theorem wLX1_sorted : GoodIn lw_all (wsV RX0 60 RX1 yX1_sorted (ws_ yX1_sorted cX1_sorted 4 (some .int))) := lw_V q126 q127 q128 q19 q129
theorem npX1_sorted : (parseMethodDescriptor yX1_sorted.desc).map (fun d => d.parameters.length) = some 0 := by decide +kernel
theorem wLX2_sorted : GoodIn lw_all (wsV RX0 63 RX2 yX2_sorted (ws_ yX2_sorted cX2_sorted 3 (some .int))) := lw_V q271 q252 q253 q20 q254
theorem npX2_sorted : (parseMethodDescriptor yX2_sorted.desc).map (fun d => d.parameters.length) = some 0 := by decide +kernel
theorem wLX1_ranks : GoodIn lw_all (wsV RX0 64 RX1 yX1_ranks (ws_ yX1_ranks cX1_ranks 11 (some .int))) := lw_V q130 q131 q132 q19 q133
theorem npX1_ranks : (parseMethodDescriptor yX1_ranks.desc).map (fun d => d.parameters.length) = some 2 := by decide +kernel
theorem wLX2_ranks : GoodIn lw_all (wsV RX0 67 RX2 yX2_ranks (ws_ yX2_ranks cX2_ranks 5 (some .int))) := lw_V q272 q273 q274 q20 q275
theorem npX2_ranks : (parseMethodDescriptor yX2_ranks.desc).map (fun d => d.parameters.length) = some 2 := by decide +kernel
theorem wLX1_works : GoodIn lw_all (wsV RX0 68 RX1 yX1_works (ws_ yX1_works cX1_works 2 (some .int))) := lw_V q138 q139 q140 q19 q141
theorem npX1_works : (parseMethodDescriptor yX1_works.desc).map (fun d => d.parameters.length) = some 1 := by decide +kernel
theorem wLX2_works : GoodIn lw_all (wsV RX0 71 RX2 yX2_works (ws_ yX2_works cX2_works 6 (some .int))) := lw_V q276 q277 q278 q20 q279
theorem npX2_works : (parseMethodDescriptor yX2_works.desc).map (fun d => d.parameters.length) = some 1 := by decide +kernel
theorem wLX1_below : GoodIn lw_all (wsV RX0 72 RX1 yX1_below (ws_ yX1_below cX1_below 3 (some .int))) := lw_V q146 q147 q148 q19 q149
theorem npX1_below : (parseMethodDescriptor yX1_below.desc).map (fun d => d.parameters.length) = some 2 := by decide +kernel
theorem wLX2_below : GoodIn lw_all (wsV RX0 75 RX2 yX2_below (ws_ yX2_below cX2_below 5 (some .int))) := lw_V q280 q281 q282 q20 q283
theorem npX2_below : (parseMethodDescriptor yX2_below.desc).map (fun d => d.parameters.length) = some 2 := by decide +kernel
theorem wLX1_idle : GoodIn lw_all (wsV RX0 76 RX1 yX1_idle (ws_ yX1_idle cX1_idle 4 (some .int))) := lw_V q150 q151 q152 q19 q153
theorem npX1_idle : (parseMethodDescriptor yX1_idle.desc).map (fun d => d.parameters.length) = some 0 := by decide +kernel
theorem wLX2_idle : GoodIn lw_all (wsV RX0 79 RX2 yX2_idle (ws_ yX2_idle cX2_idle 5 (some .int))) := lw_V q284 q285 q286 q20 q287
theorem npX2_idle : (parseMethodDescriptor yX2_idle.desc).map (fun d => d.parameters.length) = some 0 := by decide +kernel
theorem wLX1_rounds : GoodIn lw_all (wsV RX0 80 RX1 yX1_rounds (ws_ yX1_rounds cX1_rounds 4 (some .int))) := lw_V q158 q159 q160 q19 q161
theorem npX1_rounds : (parseMethodDescriptor yX1_rounds.desc).map (fun d => d.parameters.length) = some 0 := by decide +kernel
theorem wLX2_rounds : GoodIn lw_all (wsV RX0 83 RX2 yX2_rounds (ws_ yX2_rounds cX2_rounds 6 (some .int))) := lw_V q292 q293 q294 q20 q295
theorem npX2_rounds : (parseMethodDescriptor yX2_rounds.desc).map (fun d => d.parameters.length) = some 0 := by decide +kernel
theorem wX2_noWire : GoodIn lw_all (wsV RX2 35 RX2 yX2_noWire (ws_ yX2_noWire cX2_noWire 2 (some .boolean))) := lw_V q203 q205 qs9 q20 q206
theorem npX2_noWire : (parseMethodDescriptor yX2_noWire.desc).map (fun d => d.parameters.length) = some 1 := by decide +kernel
theorem wX2_is : GoodIn lw_all (wsV RX2 42 RX2 yX2_is (ws_ yX2_is cX2_is 2 (some .boolean))) := lw_V q211 q213 qs10 q20 q214
theorem npX2_is : (parseMethodDescriptor yX2_is.desc).map (fun d => d.parameters.length) = some 1 := by decide +kernel
theorem wX2_compare : GoodIn lw_all (wsV RX2 45 RX2 yX2_compare (ws_ yX2_compare cX2_compare 5 (some .boolean))) := lw_V q235 q237 qs11 q20 q238
theorem npX2_compare : (parseMethodDescriptor yX2_compare.desc).map (fun d => d.parameters.length) = some 1 := by decide +kernel
theorem wX2_all : GoodIn lw_all (wsV RX2 48 RX2 yX2_all (ws_ yX2_all cX2_all 3 (some .int))) := lw_V q247 q249 qs12 q20 q250
theorem npX2_all : (parseMethodDescriptor yX2_all.desc).map (fun d => d.parameters.length) = some 0 := by decide +kernel
theorem wX2_sorted : GoodIn lw_all (wsV RX2 52 RX2 yX2_sorted (ws_ yX2_sorted cX2_sorted 3 (some .int))) := lw_V q251 q252 q253 q20 q254
theorem wX2_firstOrder : GoodIn lw_all (wsV RX2 55 RX2 yX2_firstOrder (ws_ yX2_firstOrder cX2_firstOrder 2 none)) := lw_V q255 q257 qs13 q20 q258
theorem npX2_firstOrder : (parseMethodDescriptor yX2_firstOrder.desc).map (fun d => d.parameters.length) = some 0 := by decide +kernel
theorem wX2_pass : GoodIn lw_all (wsV RX2 58 RX2 yX2_pass (ws_ yX2_pass cX2_pass 3 none)) := lw_V q259 q261 qs14 q20 q262
theorem npX2_pass : (parseMethodDescriptor yX2_pass.desc).map (fun d => d.parameters.length) = some 1 := by decide +kernel
theorem wX2_isSorted : GoodIn lw_all (wsV RX2 62 RX2 yX2_isSorted (ws_ yX2_isSorted cX2_isSorted 2 (some .boolean))) := lw_V q263 q265 qs15 q20 q266
theorem npX2_isSorted : (parseMethodDescriptor yX2_isSorted.desc).map (fun d => d.parameters.length) = some 0 := by decide +kernel
theorem wX2_nextOrder : GoodIn lw_all (wsV RX2 66 RX2 yX2_nextOrder (ws_ yX2_nextOrder cX2_nextOrder 6 (some .boolean))) := lw_V q267 q269 qs16 q20 q270
theorem npX2_nextOrder : (parseMethodDescriptor yX2_nextOrder.desc).map (fun d => d.parameters.length) = some 0 := by decide +kernel
theorem wX2_same : GoodIn lw_all (wsV RX2 69 RX2 yX2_same (ws_ yX2_same cX2_same 3 (some .boolean))) := lw_V q288 q290 qs17 q20 q291
theorem npX2_same : (parseMethodDescriptor yX2_same.desc).map (fun d => d.parameters.length) = some 1 := by decide +kernel
end
section
set_option maxRecDepth 100000
set_option maxHeartbeats 4000000 in
theorem x_badWire (n c : Int32) (F : Nat → Nat → Int32) (w : Int32) : ob_Met K1 yX1_badWire cX1_badWire 2 (some .boolean) 0 0 [.int w] (n, c, F) (fun r S' => S' = (n, c, F) ∧ r = nI (bw n w)) := by
  refine ob_intro C1 rfl rfl (Nat.le_of_ble_eq_true rfl) ?_
  intro E X G ret
  have g := G.1
  refine gm_iload_n g dX1_badWire_0 rfl ?_
  refine gm_if_lt g 12 dX1_badWire_1 (by decide) (fun c1 => ?_) (fun c1 => ?_)
  · refine gm_iconst (v := nI 1) g dX1_badWire_12 (by decide) ?_
    refine gm_goto g 17 dX1_badWire_13 (by decide) ?_
    exact ret _ _ _ _ dX1_badWire_17 rfl ⟨rfl, by rw [bw_1 (Or.inl c1)]⟩
  · refine gm_iload_n g dX1_badWire_4 rfl ?_
    refine gm_aload_n g dX1_badWire_5 rfl ?_
    refine ob_getn G q29 dX1_badWire_6 ?_
    refine gm_icmp_lt g 16 dX1_badWire_9 (by decide) (fun c2 => ?_) (fun c2 => ?_)
    · refine gm_iconst (v := nI 0) g dX1_badWire_16 (by decide) ?_
      exact ret _ _ _ _ dX1_badWire_17 rfl ⟨rfl, by rw [bw_0 c1 (fun h => i_nle.mpr c2 h)]⟩
    · refine gm_iconst (v := nI 1) g dX1_badWire_12 (by decide) ?_
      refine gm_goto g 17 dX1_badWire_13 (by decide) ?_
      exact ret _ _ _ _ dX1_badWire_17 rfl ⟨rfl, by rw [bw_1 (Or.inr (i_nlt.mp c2))]⟩
set_option maxHeartbeats 4000000 in
theorem x_add {N C : Nat} {lo hi : Nat → Nat} {gv : Nat → Int32} {F : Nat → Nat → Int32} (hN : ok_net N C lo hi) (hF : xF F N C lo hi gv) (i j : Int32) : ob_Met K1 yX1_add cX1_add 3 (some .int) 1 21 [.int i, .int j] (nI N, nI C, F) (fun r S' => ∃ (C' : Nat) (lo' hi' : Nat → Nat) (F' : Nat → Nat → Int32), S' = (nI N, nI C', F') ∧ ok_net N C' lo' hi' ∧ xF F' N C' lo' hi' gv ∧ (r, C', lo', hi') = p_add N C lo hi i j) := by
  refine ob_intro C1 rfl rfl (Nat.le_of_ble_eq_true rfl) ?_
  intro E X G ret
  have g := G.1
  obtain ⟨hN2, hN7, hC24, hnet⟩ := id hN
  obtain ⟨⟨hFc, hFg⟩, hFp⟩ := id hF
  refine gm_aload_n g dX1_add_0 rfl ?_
  refine gm_iload_n g dX1_add_1 rfl ?_
  refine ob_call (as := [.int i]) (rest := []) G (x_badWire (nI N) (nI C) F i) wX1_badWire rfl npX1_badWire rfl rfl rfl (Nat.le_of_ble_eq_true rfl) dX1_add_2 (fun r S' hp => ?_)
  obtain ⟨rfl, rfl⟩ := hp
  refine gN_if_ne g 21 dX1_add_5 (by decide) (bw_lt _ _) (fun c1 => ?_) (fun c1 => ?_)
  · refine gm_iconst (v := -1) g dX1_add_21 (by decide) ?_
    exact ret _ _ _ _ dX1_add_22 rfl ⟨C, lo, hi, F, rfl, hN, hF, by unfold p_add; rw [if_pos (Or.inl c1)]⟩
  · refine gm_aload_n g dX1_add_8 rfl ?_
    refine gm_iload_n g dX1_add_9 rfl ?_
    refine ob_call (as := [.int j]) (rest := []) G (x_badWire (nI N) (nI C) F j) wX1_badWire rfl npX1_badWire rfl rfl rfl (Nat.le_of_ble_eq_true rfl) dX1_add_10 (fun r S' hp => ?_)
    obtain ⟨rfl, rfl⟩ := hp
    refine gN_if_ne g 21 dX1_add_13 (by decide) (bw_lt _ _) (fun c2 => ?_) (fun c2 => ?_)
    · refine gm_iconst (v := -1) g dX1_add_21 (by decide) ?_
      exact ret _ _ _ _ dX1_add_22 rfl ⟨C, lo, hi, F, rfl, hN, hF, by unfold p_add; rw [if_pos (Or.inr (Or.inl c2))]⟩
    · refine gm_iload_n g dX1_add_16 rfl ?_
      refine gm_iload_n g dX1_add_17 rfl ?_
      refine gm_icmp_ne g 23 dX1_add_18 (by decide) (fun c3 => ?_) (fun c3 => ?_)
      · refine gm_aload_n g dX1_add_23 rfl ?_
        refine ob_getc G q30 dX1_add_24 ?_
        refine gm_bipush (v := nI 24) g dX1_add_27 (by decide) ?_
        refine gN_icmp_ne g 35 dX1_add_29 (by decide) (by omega) (by omega) (fun c4 => ?_) (fun c4 => ?_)
        · obtain ⟨a, ha, ei⟩ := bw_in (by omega) c1
          obtain ⟨b, hb, ej⟩ := bw_in (by omega) c2
          subst ei; subst ej
          have hab : a ≠ b := fun h => c3 (by rw [h])
          refine gm_aload_n g dX1_add_35 rfl ?_
          refine ob_geta G 0 rfl q31 dX1_add_36 ?_
          refine gm_aload_n g dX1_add_39 rfl ?_
          refine ob_getc G q30 dX1_add_40 ?_
          refine gm_iload_n g dX1_add_43 rfl ?_
          refine gN_i2b g dX1_add_44 (by omega) ?_
          refine ob_bast (y := nI a) G 0 rfl dX1_add_45 (by omega) (nb_vb (by omega)) ?_
          generalize hF1 : va_up F 0 (upd (F 0) C (nI a)) = F1
          refine gm_aload_n g dX1_add_46 rfl ?_
          refine ob_geta G 1 rfl q32 dX1_add_47 ?_
          refine gm_aload_n g dX1_add_50 rfl ?_
          refine ob_getc G q30 dX1_add_51 ?_
          refine gm_iload_n g dX1_add_54 rfl ?_
          refine gN_i2b g dX1_add_55 (by omega) ?_
          refine ob_bast (y := nI b) G 1 rfl dX1_add_56 (by omega) (nb_vb (by omega)) ?_
          generalize hF2 : va_up F1 1 (upd (F1 1) C (nI b)) = F2
          refine gm_aload_n g dX1_add_57 rfl ?_
          refine gm_dup g dX1_add_58 rfl ?_
          refine ob_getc G q30 dX1_add_59 ?_
          refine gm_iconst (v := nI 1) g dX1_add_62 (by decide) ?_
          refine gN_iadd g dX1_add_63 ?_
          refine ob_putc G q30 rfl (by decide +kernel) dX1_add_64 ?_
          refine gm_aload_n g dX1_add_67 rfl ?_
          refine ob_getc G q30 dX1_add_68 ?_
          exact ret _ _ _ _ dX1_add_71 rfl ⟨C + 1, va_up lo C a, va_up hi C b, F2, rfl, ok_add hN ha hb hab c4, ⟨mF_add hF.1 hF1 hF2, by rw [up_n hF2 (by decide), up_n hF1 (by decide)]; exact hFp⟩, by unfold p_add; rw [if_neg (fun h => h.elim (fun h => h c1) (fun h => h.elim (fun h => h c2) c3)), if_neg c4, nI_clamp (by omega), nI_clamp (by omega)]⟩
        · refine gm_bipush (v := -2) g dX1_add_32 (by decide) ?_
          exact ret _ _ _ _ dX1_add_34 rfl ⟨C, lo, hi, F, rfl, hN, hF, by unfold p_add; rw [if_neg (fun h => h.elim (fun h => h c1) (fun h => h.elim (fun h => h c2) c3)), if_pos c4]⟩
      · refine gm_iconst (v := -1) g dX1_add_21 (by decide) ?_
        exact ret _ _ _ _ dX1_add_22 rfl ⟨C, lo, hi, F, rfl, hN, hF, by unfold p_add; rw [if_pos (Or.inr (Or.inr c3))]⟩
set_option maxHeartbeats 4000000 in
theorem x_drop {N C : Nat} {lo hi : Nat → Nat} {gv : Nat → Int32} {F : Nat → Nat → Int32} (hN : ok_net N C lo hi) (hF : xF F N C lo hi gv) (k : Int32) : ob_Met K1 yX1_drop cX1_drop 3 (some .int) 0 0 [.int k] (nI N, nI C, F) (fun r S' => ∃ (C' : Nat) (lo' hi' : Nat → Nat) (F' : Nat → Nat → Int32), S' = (nI N, nI C', F') ∧ ok_net N C' lo' hi' ∧ xF F' N C' lo' hi' gv ∧ (r, C', lo', hi') = p_drop C lo hi k) := by
  refine ob_intro C1 rfl rfl (Nat.le_of_ble_eq_true rfl) ?_
  intro E X G ret
  have g := G.1
  obtain ⟨hN2, hN7, hC24, hnet⟩ := id hN
  obtain ⟨⟨hFc, hFg⟩, hFp⟩ := id hF
  refine gm_iload_n g dX1_drop_0 rfl ?_
  refine gm_if_lt g 12 dX1_drop_1 (by decide) (fun c1 => ?_) (fun c1 => ?_)
  · refine gm_bipush (v := -4) g dX1_drop_12 (by decide) ?_
    exact ret _ _ _ _ dX1_drop_14 rfl ⟨C, lo, hi, F, rfl, hN, hF, by unfold p_drop; rw [if_pos (by rw [bw_1 (Or.inl c1)]; decide)]⟩
  · refine gm_iload_n g dX1_drop_4 rfl ?_
    refine gm_aload_n g dX1_drop_5 rfl ?_
    refine ob_getc G q30 dX1_drop_6 ?_
    refine gm_icmp_lt g 15 dX1_drop_9 (by decide) (fun c2 => ?_) (fun c2 => ?_)
    · have hb0 : bw (nI C) k = 0 := bw_0 c1 (i_nle.mpr c2)
      obtain ⟨a, ha, ek⟩ := bw_in (by omega) hb0
      subst ek
      refine gm_aload_n g dX1_drop_15 rfl ?_
      refine gm_dup g dX1_drop_16 rfl ?_
      refine ob_getc G q30 dX1_drop_17 ?_
      refine gm_iconst (v := nI 1) g dX1_drop_20 (by decide) ?_
      refine gN_isub g dX1_drop_21 (by omega) ?_
      refine ob_putc G q30 rfl (by decide +kernel) dX1_drop_22 ?_
      refine gm_iload_n g dX1_drop_25 rfl ?_
      refine gm_istore_n (lv' := [.ref (ob_h X), .int (nI a), .int (nI a)]) g dX1_drop_26 rfl rfl ?_
      refine lq1 (A := Nat → Nat → Int32) (C - 1) (fun i F' => gm E 3 (ob_I K1 X (nI N, nI (C - 1), F')) [.ref (ob_h X), .int (nI a), .int (nI i)] 27 []) (fun i F' => a ≤ i ∧ F' 2 = F 2 ∧ F' 8 = F 8 ∧ (∀ x, F' 0 x = if a ≤ x ∧ x < i then F 0 (x + 1) else F 0 x) ∧ (∀ x, F' 1 x = if a ≤ x ∧ x < i then F 1 (x + 1) else F 1 x)) ?_ a F (by omega) ⟨Nat.le_refl a, rfl, rfl, fun x => by rw [if_neg (by omega)], fun x => by rw [if_neg (by omega)]⟩
      intro i F' hle hv ih
      obtain ⟨hai, h2, h8, h0, h1⟩ := hv
      refine gm_iload_n g dX1_drop_27 rfl ?_
      refine gm_aload_n g dX1_drop_28 rfl ?_
      refine ob_getc G q30 dX1_drop_29 ?_
      refine gN_icmp_ge g 69 dX1_drop_32 (by decide) (by omega) (by omega) (fun c3 => ?_) (fun c3 => ?_)
      · have e : i = C - 1 := by omega
        subst e
        refine gm_aload_n g dX1_drop_69 rfl ?_
        refine ob_getc G q30 dX1_drop_70 ?_
        exact ret _ _ _ _ dX1_drop_73 rfl ⟨C - 1, _, _, F', rfl, ok_drop hN ha, ⟨mF_drop hF.1 h0 h1 h2, by rw [h8]; exact hFp⟩, by unfold p_drop; rw [if_neg (by rw [hb0]; decide), nI_clamp (by omega)]⟩
      · have hL := hnet (i + 1) (by omega)
        have hc := hFc (i + 1) (by omega)
        refine gm_aload_n g dX1_drop_35 rfl ?_
        refine ob_geta G 0 rfl q31 dX1_drop_36 ?_
        refine gm_iload_n g dX1_drop_39 rfl ?_
        refine gm_aload_n g dX1_drop_40 rfl ?_
        refine ob_geta G 0 rfl q31 dX1_drop_41 ?_
        refine gm_iload_n g dX1_drop_44 rfl ?_
        refine gm_iconst (v := nI 1) g dX1_drop_45 (by decide) ?_
        refine gN_iadd g dX1_drop_46 ?_
        refine ob_bald (v := nI (lo (i + 1))) G 0 rfl dX1_drop_47 (by omega) (by rw [h0, if_neg (by omega)]; exact hc.1) ?_
        refine ob_bast (y := nI (lo (i + 1))) G 0 rfl dX1_drop_48 (by omega) (nb_vb (by omega)) ?_
        generalize hF1 : va_up F' 0 (upd (F' 0) i (nI (lo (i + 1)))) = F1
        refine gm_aload_n g dX1_drop_49 rfl ?_
        refine ob_geta G 1 rfl q32 dX1_drop_50 ?_
        refine gm_iload_n g dX1_drop_53 rfl ?_
        refine gm_aload_n g dX1_drop_54 rfl ?_
        refine ob_geta G 1 rfl q32 dX1_drop_55 ?_
        refine gm_iload_n g dX1_drop_58 rfl ?_
        refine gm_iconst (v := nI 1) g dX1_drop_59 (by decide) ?_
        refine gN_iadd g dX1_drop_60 ?_
        refine ob_bald (v := nI (hi (i + 1))) G 1 rfl dX1_drop_61 (by omega) (by rw [up_n hF1 (by decide), h1, if_neg (by omega)]; exact hc.2) ?_
        refine ob_bast (y := nI (hi (i + 1))) G 1 rfl dX1_drop_62 (by omega) (nb_vb (by omega)) ?_
        generalize hF2 : va_up F1 1 (upd (F1 1) i (nI (hi (i + 1)))) = F2
        refine gN_iinc (lv' := [.ref (ob_h X), .int (nI a), .int (nI (i + 1))]) g dX1_drop_63 rfl rfl rfl ?_
        refine gm_goto g 27 dX1_drop_66 (by decide) ?_
        exact ih c3 F2 ⟨by omega, by rw [up_n hF2 (by decide), up_n hF1 (by decide)]; exact h2, by rw [up_n hF2 (by decide), up_n hF1 (by decide)]; exact h8, by rw [up_n hF2 (by decide), up_s hF1]; exact dr_step h0 hai hc.1.symm, by rw [up_s hF2, up_n hF1 (by decide)]; exact dr_step h1 hai hc.2.symm⟩
    · refine gm_bipush (v := -4) g dX1_drop_12 (by decide) ?_
      exact ret _ _ _ _ dX1_drop_14 rfl ⟨C, lo, hi, F, rfl, hN, hF, by unfold p_drop; rw [if_pos (by rw [bw_1 (Or.inr (i_nlt.mp c2))]; decide)]⟩
set_option maxHeartbeats 4000000 in
theorem x_swap {N C : Nat} {lo hi : Nat → Nat} {gv : Nat → Int32} {F : Nat → Nat → Int32} (hN : ok_net N C lo hi) (hF : xF F N C lo hi gv) (k : Int32) : ob_Met K1 yX1_swap cX1_swap 4 (some .int) 0 0 [.int k] (nI N, nI C, F) (fun r S' => ∃ (C' : Nat) (lo' hi' : Nat → Nat) (F' : Nat → Nat → Int32), S' = (nI N, nI C', F') ∧ ok_net N C' lo' hi' ∧ xF F' N C' lo' hi' gv ∧ (r, C', lo', hi') = p_swap C lo hi k) := by
  refine ob_intro C1 rfl rfl (Nat.le_of_ble_eq_true rfl) ?_
  intro E X G ret
  have g := G.1
  obtain ⟨hN2, hN7, hC24, hnet⟩ := id hN
  obtain ⟨⟨hFc, hFg⟩, hFp⟩ := id hF
  refine gm_iload_n g dX1_swap_0 rfl ?_
  refine gm_if_lt g 14 dX1_swap_1 (by decide) (fun c1 => ?_) (fun c1 => ?_)
  · refine gm_bipush (v := -4) g dX1_swap_14 (by decide) ?_
    exact ret _ _ _ _ dX1_swap_16 rfl ⟨C, lo, hi, F, rfl, hN, hF, by unfold p_swap; rw [if_pos (Or.inl c1)]⟩
  · refine gm_iload_n g dX1_swap_4 rfl ?_
    refine gm_aload_n g dX1_swap_5 rfl ?_
    refine ob_getc G q30 dX1_swap_6 ?_
    refine gm_iconst (v := nI 1) g dX1_swap_9 (by decide) ?_
    refine gm_isub (v := nI C - nI 1) g dX1_swap_10 (rfl) ?_
    refine gm_icmp_lt g 17 dX1_swap_11 (by decide) (fun c2 => ?_) (fun c2 => ?_)
    · have hno : ¬ (k < 0 ∨ nI C - nI 1 ≤ k) := fun h => h.elim c1 (i_nle.mpr c2)
      obtain ⟨a, ha, ek⟩ := sw_in hC24 c1 c2
      subst ek
      have hL := hnet a (by omega)
      have hL1 := hnet (a + 1) (by omega)
      have hc := hFc a (by omega)
      have hc1 := hFc (a + 1) (by omega)
      refine gm_aload_n g dX1_swap_17 rfl ?_
      refine ob_geta G 0 rfl q31 dX1_swap_18 ?_
      refine gm_iload_n g dX1_swap_21 rfl ?_
      refine ob_bald (v := nI (lo a)) G 0 rfl dX1_swap_22 (by omega) (hc.1) ?_
      refine gm_istore_n (lv' := [.ref (ob_h X), .int (nI a), .int (nI (lo a))]) g dX1_swap_23 rfl rfl ?_
      refine gm_aload_n g dX1_swap_24 rfl ?_
      refine ob_geta G 1 rfl q32 dX1_swap_25 ?_
      refine gm_iload_n g dX1_swap_28 rfl ?_
      refine ob_bald (v := nI (hi a)) G 1 rfl dX1_swap_29 (by omega) (hc.2) ?_
      refine gm_istore_n (lv' := [.ref (ob_h X), .int (nI a), .int (nI (lo a)), .int (nI (hi a))]) g dX1_swap_30 rfl rfl ?_
      refine gm_aload_n g dX1_swap_31 rfl ?_
      refine ob_geta G 0 rfl q31 dX1_swap_32 ?_
      refine gm_iload_n g dX1_swap_35 rfl ?_
      refine gm_aload_n g dX1_swap_36 rfl ?_
      refine ob_geta G 0 rfl q31 dX1_swap_37 ?_
      refine gm_iload_n g dX1_swap_40 rfl ?_
      refine gm_iconst (v := nI 1) g dX1_swap_41 (by decide) ?_
      refine gN_iadd g dX1_swap_42 ?_
      refine ob_bald (v := nI (lo (a + 1))) G 0 rfl dX1_swap_43 (by omega) (hc1.1) ?_
      refine ob_bast (y := nI (lo (a + 1))) G 0 rfl dX1_swap_44 (by omega) (nb_vb (by omega)) ?_
      generalize hF1 : va_up F 0 (upd (F 0) a (nI (lo (a + 1)))) = F1
      refine gm_aload_n g dX1_swap_45 rfl ?_
      refine ob_geta G 1 rfl q32 dX1_swap_46 ?_
      refine gm_iload_n g dX1_swap_49 rfl ?_
      refine gm_aload_n g dX1_swap_50 rfl ?_
      refine ob_geta G 1 rfl q32 dX1_swap_51 ?_
      refine gm_iload_n g dX1_swap_54 rfl ?_
      refine gm_iconst (v := nI 1) g dX1_swap_55 (by decide) ?_
      refine gN_iadd g dX1_swap_56 ?_
      refine ob_bald (v := nI (hi (a + 1))) G 1 rfl dX1_swap_57 (by omega) (by rw [up_n hF1 (by decide)]; exact hc1.2) ?_
      refine ob_bast (y := nI (hi (a + 1))) G 1 rfl dX1_swap_58 (by omega) (nb_vb (by omega)) ?_
      generalize hF2 : va_up F1 1 (upd (F1 1) a (nI (hi (a + 1)))) = F2
      refine gm_aload_n g dX1_swap_59 rfl ?_
      refine ob_geta G 0 rfl q31 dX1_swap_60 ?_
      refine gm_iload_n g dX1_swap_63 rfl ?_
      refine gm_iconst (v := nI 1) g dX1_swap_64 (by decide) ?_
      refine gN_iadd g dX1_swap_65 ?_
      refine gm_iload_n g dX1_swap_66 rfl ?_
      refine ob_bast (y := nI (lo a)) G 0 rfl dX1_swap_67 (by omega) (nb_vb (by omega)) ?_
      generalize hF3 : va_up F2 0 (upd (F2 0) (a + 1) (nI (lo a))) = F3
      refine gm_aload_n g dX1_swap_68 rfl ?_
      refine ob_geta G 1 rfl q32 dX1_swap_69 ?_
      refine gm_iload_n g dX1_swap_72 rfl ?_
      refine gm_iconst (v := nI 1) g dX1_swap_73 (by decide) ?_
      refine gN_iadd g dX1_swap_74 ?_
      refine gm_iload_n g dX1_swap_75 rfl ?_
      refine ob_bast (y := nI (hi a)) G 1 rfl dX1_swap_76 (by omega) (nb_vb (by omega)) ?_
      generalize hF4 : va_up F3 1 (upd (F3 1) (a + 1) (nI (hi a))) = F4
      refine gm_iconst (v := nI 0) g dX1_swap_77 (by decide) ?_
      exact ret _ _ _ _ dX1_swap_78 rfl ⟨C, _, _, F4, rfl, ok_swap hN ha, ⟨mF_swap hF.1 ha hF1 hF2 hF3 hF4, by rw [up_n hF4 (by decide), up_n hF3 (by decide), up_n hF2 (by decide), up_n hF1 (by decide)]; exact hFp⟩, by unfold p_swap; rw [if_neg hno, nI_clamp (by omega)]⟩
    · refine gm_bipush (v := -4) g dX1_swap_14 (by decide) ?_
      exact ret _ _ _ _ dX1_swap_16 rfl ⟨C, lo, hi, F, rfl, hN, hF, by unfold p_swap; rw [if_pos (Or.inr (i_nlt.mp c2))]⟩
set_option maxHeartbeats 4000000 in
theorem x_turn {N C : Nat} {lo hi : Nat → Nat} {gv : Nat → Int32} {F : Nat → Nat → Int32} (hN : ok_net N C lo hi) (hF : xF F N C lo hi gv) : ob_Met K1 yX1_turn cX1_turn 3 (some .int) 0 0 [] (nI N, nI C, F) (fun r S' => ∃ (C' : Nat) (lo' hi' : Nat → Nat) (F' : Nat → Nat → Int32), S' = (nI N, nI C', F') ∧ ok_net N C' lo' hi' ∧ xF F' N C' lo' hi' gv ∧ (r, C', lo', hi') = p_turn N C lo hi) := by
  refine ob_intro C1 rfl rfl (Nat.le_of_ble_eq_true rfl) ?_
  intro E X G ret
  have g := G.1
  obtain ⟨hN2, hN7, hC24, hnet⟩ := id hN
  obtain ⟨⟨hFc, hFg⟩, hFp⟩ := id hF
  refine gm_iconst (v := nI 0) g dX1_turn_0 (by decide) ?_
  refine gm_istore_n (lv' := [.ref (ob_h X), .int (nI 0)]) g dX1_turn_1 rfl rfl ?_
  refine lq1 (A := Nat → Nat → Int32) C (fun k F' => gm E 3 (ob_I K1 X (nI N, nI C, F')) [.ref (ob_h X), .int (nI k)] 2 []) (fun k F' => F' 2 = F 2 ∧ F' 8 = F 8 ∧ ∀ x, x < C → F' 0 x = nI (if x < k then N - 1 - hi x else lo x) ∧ F' 1 x = nI (if x < k then N - 1 - lo x else hi x)) ?_ 0 F (Nat.zero_le _) ⟨rfl, rfl, fun x hx => by rw [if_neg (by omega), if_neg (by omega)]; exact hFc x hx⟩
  intro k F' hk hv ih
  obtain ⟨h2, h8, h0⟩ := hv
  refine gm_iload_n g dX1_turn_2 rfl ?_
  refine gm_aload_n g dX1_turn_3 rfl ?_
  refine ob_getc G q30 dX1_turn_4 ?_
  refine gN_icmp_ge g 58 dX1_turn_7 (by decide) (by omega) (by omega) (fun c3 => ?_) (fun c3 => ?_)
  · have e : k = C := by omega
    subst e
    refine gm_aload_n g dX1_turn_58 rfl ?_
    refine ob_getc G q30 dX1_turn_59 ?_
    exact ret _ _ _ _ dX1_turn_62 rfl ⟨k, _, _, F', rfl, ok_turn hN, ⟨mF_turn hF.1 h0 h2, by rw [h8]; exact hFp⟩, rfl⟩
  · have hL := hnet k c3
    have hc := h0 k c3
    rw [if_neg (by omega), if_neg (by omega)] at hc
    refine gm_aload_n g dX1_turn_10 rfl ?_
    refine ob_geta G 0 rfl q31 dX1_turn_11 ?_
    refine gm_iload_n g dX1_turn_14 rfl ?_
    refine ob_bald (v := nI (lo k)) G 0 rfl dX1_turn_15 (by omega) (hc.1) ?_
    refine gm_istore_n (lv' := [.ref (ob_h X), .int (nI k), .int (nI (lo k))]) g dX1_turn_16 rfl rfl ?_
    refine gm_aload_n g dX1_turn_17 rfl ?_
    refine ob_geta G 0 rfl q31 dX1_turn_18 ?_
    refine gm_iload_n g dX1_turn_21 rfl ?_
    refine gm_aload_n g dX1_turn_22 rfl ?_
    refine ob_getn G q29 dX1_turn_23 ?_
    refine gm_iconst (v := nI 1) g dX1_turn_26 (by decide) ?_
    refine gN_isub g dX1_turn_27 (by omega) ?_
    refine gm_aload_n g dX1_turn_28 rfl ?_
    refine ob_geta G 1 rfl q32 dX1_turn_29 ?_
    refine gm_iload_n g dX1_turn_32 rfl ?_
    refine ob_bald (v := nI (hi k)) G 1 rfl dX1_turn_33 (by omega) (hc.2) ?_
    refine gN_isub g dX1_turn_34 (by omega) ?_
    refine gN_i2b g dX1_turn_35 (by omega) ?_
    refine ob_bast (y := nI ((N - 1) - (hi k))) G 0 rfl dX1_turn_36 (by omega) (nb_vb (by omega)) ?_
    generalize hF1 : va_up F' 0 (upd (F' 0) k (nI ((N - 1) - (hi k)))) = F1
    refine gm_aload_n g dX1_turn_37 rfl ?_
    refine ob_geta G 1 rfl q32 dX1_turn_38 ?_
    refine gm_iload_n g dX1_turn_41 rfl ?_
    refine gm_aload_n g dX1_turn_42 rfl ?_
    refine ob_getn G q29 dX1_turn_43 ?_
    refine gm_iconst (v := nI 1) g dX1_turn_46 (by decide) ?_
    refine gN_isub g dX1_turn_47 (by omega) ?_
    refine gm_iload_n g dX1_turn_48 rfl ?_
    refine gN_isub g dX1_turn_49 (by omega) ?_
    refine gN_i2b g dX1_turn_50 (by omega) ?_
    refine ob_bast (y := nI ((N - 1) - (lo k))) G 1 rfl dX1_turn_51 (by omega) (nb_vb (by omega)) ?_
    generalize hF2 : va_up F1 1 (upd (F1 1) k (nI ((N - 1) - (lo k)))) = F2
    refine gN_iinc (lv' := [.ref (ob_h X), .int (nI (k + 1)), .int (nI (lo k))]) g dX1_turn_52 rfl rfl rfl ?_
    refine gm_goto g 2 dX1_turn_55 (by decide) ?_
    exact gm_take 2 rfl (ih c3 F2 ⟨by rw [up_n hF2 (by decide), up_n hF1 (by decide)]; exact h2, by rw [up_n hF2 (by decide), up_n hF1 (by decide)]; exact h8, tn_step h0 hF1 hF2⟩)
set_option maxHeartbeats 4000000 in
theorem x_size (n c : Int32) (F : Nat → Nat → Int32) : ob_Met K1 yX1_size cX1_size 1 (some .int) 0 0 [] (n, c, F) (fun r S' => S' = (n, c, F) ∧ r = c) := by
  refine ob_intro C1 rfl rfl (Nat.le_of_ble_eq_true rfl) ?_
  intro E X G ret
  have g := G.1
  refine gm_aload_n g dX1_size_0 rfl ?_
  refine ob_getc G q30 dX1_size_1 ?_
  exact ret _ _ _ _ dX1_size_4 rfl ⟨rfl, rfl⟩
set_option maxHeartbeats 4000000 in
theorem x_input {N C : Nat} {lo hi : Nat → Nat} {gv : Nat → Int32} {F : Nat → Nat → Int32} (hN : ok_net N C lo hi) (hF : xF F N C lo hi gv) (w v : Int32) : ob_Met K1 yX1_input cX1_input 3 (some .int) 1 21 [.int w, .int v] (nI N, nI C, F) (fun r S' => ∃ F' : Nat → Nat → Int32, S' = (nI N, nI C, F') ∧ (bw (nI N) w ≠ 0 ∧ r = -1 ∧ xF F' N C lo hi gv ∨ bw (nI N) w = 0 ∧ r = nI 0 ∧ xF F' N C lo hi (upd gv w.toNatClampNeg v))) := by
  refine ob_intro C1 rfl rfl (Nat.le_of_ble_eq_true rfl) ?_
  intro E X G ret
  have g := G.1
  obtain ⟨hN2, hN7, hC24, hnet⟩ := id hN
  obtain ⟨⟨hFc, hFg⟩, hFp⟩ := id hF
  refine gm_aload_n g dX1_input_0 rfl ?_
  refine gm_iload_n g dX1_input_1 rfl ?_
  refine ob_call (as := [.int w]) (rest := []) G (x_badWire (nI N) (nI C) F w) wX1_badWire rfl npX1_badWire rfl rfl rfl (Nat.le_of_ble_eq_true rfl) dX1_input_2 (fun r S' hp => ?_)
  obtain ⟨rfl, rfl⟩ := hp
  refine gN_if_eq g 10 dX1_input_5 (by decide) (bw_lt _ _) (fun c1 => ?_) (fun c1 => ?_)
  · obtain ⟨a, ha, ew⟩ := bw_in (by omega) c1
    subst ew
    refine gm_aload_n g dX1_input_10 rfl ?_
    refine ob_geta G 2 rfl q33 dX1_input_11 ?_
    refine gm_iload_n g dX1_input_14 rfl ?_
    refine gm_iload_n g dX1_input_15 rfl ?_
    refine ob_iast G 2 rfl dX1_input_16 (by omega) ?_
    generalize hF1 : va_up F 2 (upd (F 2) a v) = F1
    refine gm_iconst (v := nI 0) g dX1_input_17 (by decide) ?_
    exact ret _ _ _ _ dX1_input_18 rfl ⟨F1, rfl, Or.inr ⟨c1, rfl, ⟨by rw [nI_clamp (by omega)]; exact mF_input hF.1 hF1, by rw [up_n hF1 (by decide)]; exact hFp⟩⟩⟩
  · refine gm_iconst (v := -1) g dX1_input_8 (by decide) ?_
    exact ret _ _ _ _ dX1_input_9 rfl ⟨F, rfl, Or.inl ⟨c1, rfl, hF⟩⟩
set_option maxHeartbeats 4000000 in
theorem x_pass {N C : Nat} {lo hi : Nat → Nat} {gv : Nat → Int32} {F : Nat → Nat → Int32} (hN : ok_net N C lo hi) (hF : xF F N C lo hi gv) : ob_Met K1 yX1_pass cX1_pass 5 (some .int) 0 0 [] (nI N, nI C, F) (fun r S' => ∃ F' : Nat → Nat → Int32, S' = (nI N, nI C, F') ∧ xF F' N C lo hi gv ∧ r = nI (xcnt lo hi C gv) ∧ ∀ w, w < N → F' 3 w = wrun lo hi nsk C gv w) := by
  refine ob_intro C1 rfl rfl (Nat.le_of_ble_eq_true rfl) ?_
  intro E X G ret
  have g := G.1
  obtain ⟨hN2, hN7, hC24, hnet⟩ := id hN
  obtain ⟨⟨hFc, hFg⟩, hFp⟩ := id hF
  refine gm_iconst (v := nI 0) g dX1_pass_0 (by decide) ?_
  refine gm_istore_n (lv' := [.ref (ob_h X), .int (nI 0)]) g dX1_pass_1 rfl rfl ?_
  refine gm_iconst (v := nI 0) g dX1_pass_2 (by decide) ?_
  refine gm_istore_n (lv' := [.ref (ob_h X), .int (nI 0), .int (nI 0)]) g dX1_pass_3 rfl rfl ?_
  refine lq1 (A := Nat → Nat → Int32) N (fun i F' => gm E 5 (ob_I K1 X (nI N, nI C, F')) [.ref (ob_h X), .int (nI 0), .int (nI i)] 4 []) (fun i F' => xF F' N C lo hi gv ∧ ∀ x, x < i → F' 3 x = gv x) ?_ 0 F (Nat.zero_le _) ⟨hF, fun x hx => absurd hx (Nat.not_lt_zero x)⟩
  intro i F' hle hv ih
  obtain ⟨hF2, h3⟩ := hv
  refine gm_iload_n g dX1_pass_4 rfl ?_
  refine gm_aload_n g dX1_pass_5 rfl ?_
  refine ob_getn G q29 dX1_pass_6 ?_
  refine gN_icmp_ge g 30 dX1_pass_9 (by decide) (by omega) (by omega) (fun c3 => ?_) (fun c3 => ?_)
  · have e : i = N := by omega
    subst e
    refine gm_iconst (v := nI 0) g dX1_pass_30 (by decide) ?_
    refine gm_istore_n (lv' := [.ref (ob_h X), .int (nI 0), .int (nI 0)]) g dX1_pass_31 rfl rfl ?_
    refine lq1 (A := Nat → Nat → Int32) C (fun k F2 => gm E 5 (ob_I K1 X (nI i, nI C, F2)) [.ref (ob_h X), .int (nI (xcnt lo hi k gv)), .int (nI k)] 32 []) (fun k F2 => xF F2 i C lo hi gv ∧ ∀ x, x < i → F2 3 x = wrun lo hi nsk k gv x) ?_ 0 F' (Nat.zero_le _) ⟨hF2, h3⟩
    intro k F2 hk hv ih2
    obtain ⟨hF3, h4⟩ := hv
    refine gm_iload_n g dX1_pass_32 rfl ?_
    refine gm_aload_n g dX1_pass_33 rfl ?_
    refine ob_getc G q30 dX1_pass_34 ?_
    refine gN_icmp_ge g 105 dX1_pass_37 (by decide) (by omega) (by omega) (fun c4 => ?_) (fun c4 => ?_)
    · have e : k = C := by omega
      subst e
      refine gm_iload_n g dX1_pass_105 rfl ?_
      exact ret _ _ _ _ dX1_pass_106 rfl ⟨F2, rfl, hF3, rfl, h4⟩
    · have hL := hnet k c4
      have hc := hF3.1.1 k c4
      have hx := xcnt_le lo hi gv k
      generalize hV : wrun lo hi nsk k gv = V at h4
      refine gm_aload_n g dX1_pass_40 rfl ?_
      refine ob_geta G 3 rfl q34 dX1_pass_41 ?_
      refine gm_aload_n g dX1_pass_44 rfl ?_
      refine ob_geta G 0 rfl q31 dX1_pass_45 ?_
      refine gm_iload_n g dX1_pass_48 rfl ?_
      refine ob_bald (v := nI (lo k)) G 0 rfl dX1_pass_49 (by omega) (hc.1) ?_
      refine ob_iald (v := V (lo k)) G 3 rfl dX1_pass_50 (by omega) (h4 _ hL.1) ?_
      refine gm_istore_n (lv' := [.ref (ob_h X), .int (nI (xcnt lo hi k gv)), .int (nI k), .int (V (lo k))]) g dX1_pass_51 rfl rfl ?_
      refine gm_aload_n g dX1_pass_52 rfl ?_
      refine ob_geta G 3 rfl q34 dX1_pass_53 ?_
      refine gm_aload_n g dX1_pass_56 rfl ?_
      refine ob_geta G 1 rfl q32 dX1_pass_57 ?_
      refine gm_iload_n g dX1_pass_60 rfl ?_
      refine ob_bald (v := nI (hi k)) G 1 rfl dX1_pass_61 (by omega) (hc.2) ?_
      refine ob_iald (v := V (hi k)) G 3 rfl dX1_pass_62 (by omega) (h4 _ hL.2.1) ?_
      refine gm_istore (lv' := [.ref (ob_h X), .int (nI (xcnt lo hi k gv)), .int (nI k), .int (V (lo k)), .int (V (hi k))]) g dX1_pass_63 rfl rfl ?_
      refine gm_iload_n g dX1_pass_65 rfl ?_
      refine gm_iload g dX1_pass_66 rfl ?_
      refine gm_icmp_le g 99 dX1_pass_68 (by decide) (fun c5 => ?_) (fun c5 => ?_)
      · refine gN_iinc (lv' := [.ref (ob_h X), .int (nI (xcnt lo hi k gv)), .int (nI (k + 1)), .int (V (lo k)), .int (V (hi k))]) g dX1_pass_99 rfl rfl rfl ?_
        refine gm_goto g 32 dX1_pass_102 (by decide) ?_
        refine gm_take 3 (lv' := [.ref (ob_h X), .int (nI (xcnt lo hi (k + 1) gv)), .int (nI (k + 1))]) (by show [_, _, _] = _; rw [show xcnt lo hi (k + 1) gv = xcnt lo hi k gv from by show xcnt lo hi k gv + _ = _; rw [hV, if_neg (i_nlt.mpr c5), Nat.add_zero]]) ?_
        exact ih2 c4 F2 ⟨hF3, by rw [wrun_s, hV]; exact cm_f h4 (i_nlt.mpr c5)⟩
      · have hgt := i_nle.mp c5
        refine gm_aload_n g dX1_pass_71 rfl ?_
        refine ob_geta G 3 rfl q34 dX1_pass_72 ?_
        refine gm_aload_n g dX1_pass_75 rfl ?_
        refine ob_geta G 0 rfl q31 dX1_pass_76 ?_
        refine gm_iload_n g dX1_pass_79 rfl ?_
        refine ob_bald (v := nI (lo k)) G 0 rfl dX1_pass_80 (by omega) (hc.1) ?_
        refine gm_iload g dX1_pass_81 rfl ?_
        refine ob_iast G 3 rfl dX1_pass_83 (by omega) ?_
        generalize hFa : va_up F2 3 (upd (F2 3) (lo k) (V (hi k))) = Fa
        refine gm_aload_n g dX1_pass_84 rfl ?_
        refine ob_geta G 3 rfl q34 dX1_pass_85 ?_
        refine gm_aload_n g dX1_pass_88 rfl ?_
        refine ob_geta G 1 rfl q32 dX1_pass_89 ?_
        refine gm_iload_n g dX1_pass_92 rfl ?_
        refine ob_bald (v := nI (hi k)) G 1 rfl dX1_pass_93 (by omega) (by rw [up_n hFa (by decide)]; exact hc.2) ?_
        refine gm_iload_n g dX1_pass_94 rfl ?_
        refine ob_iast G 3 rfl dX1_pass_95 (by omega) ?_
        generalize hFb : va_up Fa 3 (upd (Fa 3) (hi k) (V (lo k))) = Fb
        refine gN_iinc (lv' := [.ref (ob_h X), .int (nI ((xcnt lo hi k gv) + 1)), .int (nI k), .int (V (lo k)), .int (V (hi k))]) g dX1_pass_96 rfl rfl rfl ?_
        refine gN_iinc (lv' := [.ref (ob_h X), .int (nI ((xcnt lo hi k gv) + 1)), .int (nI (k + 1)), .int (V (lo k)), .int (V (hi k))]) g dX1_pass_99 rfl rfl rfl ?_
        refine gm_goto g 32 dX1_pass_102 (by decide) ?_
        refine gm_take 3 (lv' := [.ref (ob_h X), .int (nI (xcnt lo hi (k + 1) gv)), .int (nI (k + 1))]) (by show [_, _, _] = _; rw [show xcnt lo hi (k + 1) gv = xcnt lo hi k gv + 1 from by show xcnt lo hi k gv + _ = _; rw [hV, if_pos hgt]]) ?_
        exact ih2 c4 Fb ⟨xF_fr (by rw [up_n hFb (by decide), up_n hFa (by decide)]) (by rw [up_n hFb (by decide), up_n hFa (by decide)]) (by rw [up_n hFb (by decide), up_n hFa (by decide)]) (by rw [up_n hFb (by decide), up_n hFa (by decide)]) hF3, by rw [up_s hFb, up_s hFa, wrun_s, hV]; exact cm_t hL.1 hL.2.1 h4 hgt⟩
  · refine gm_aload_n g dX1_pass_12 rfl ?_
    refine ob_geta G 3 rfl q34 dX1_pass_13 ?_
    refine gm_iload_n g dX1_pass_16 rfl ?_
    refine gm_aload_n g dX1_pass_17 rfl ?_
    refine ob_geta G 2 rfl q33 dX1_pass_18 ?_
    refine gm_iload_n g dX1_pass_21 rfl ?_
    refine ob_iald (v := gv i) G 2 rfl dX1_pass_22 (by omega) (hF2.1.2 i c3) ?_
    refine ob_iast G 3 rfl dX1_pass_23 (by omega) ?_
    generalize hF1 : va_up F' 3 (upd (F' 3) i (gv i)) = F1
    refine gN_iinc (lv' := [.ref (ob_h X), .int (nI 0), .int (nI (i + 1))]) g dX1_pass_24 rfl rfl rfl ?_
    refine gm_goto g 4 dX1_pass_27 (by decide) ?_
    exact ih c3 F1 ⟨xF_fr (up_n hF1 (by decide)) (up_n hF1 (by decide)) (up_n hF1 (by decide)) (up_n hF1 (by decide)) hF2, fun x hx => by
      rw [up_s hF1]
      by_cases e : x = i
      · subst e; rw [upd_s]
      · rw [upd_n _ _ e]; exact h3 x (by omega)⟩
set_option maxHeartbeats 4000000 in
theorem x_output {N C : Nat} {lo hi : Nat → Nat} {gv : Nat → Int32} {F : Nat → Nat → Int32} (hN : ok_net N C lo hi) (hF : xF F N C lo hi gv) (w : Int32) : ob_Met K1 yX1_output cX1_output 2 (some .int) 1 24 [.int w] (nI N, nI C, F) (fun r S' => ∃ F' : Nat → Nat → Int32, S' = (nI N, nI C, F') ∧ xF F' N C lo hi gv ∧ r = if bw (nI N) w = 0 then wrun lo hi nsk C gv w.toNatClampNeg else nI 0) := by
  refine ob_intro C1 rfl rfl (Nat.le_of_ble_eq_true rfl) ?_
  intro E X G ret
  have g := G.1
  obtain ⟨hN2, hN7, hC24, hnet⟩ := id hN
  obtain ⟨⟨hFc, hFg⟩, hFp⟩ := id hF
  refine gm_aload_n g dX1_output_0 rfl ?_
  refine gm_iload_n g dX1_output_1 rfl ?_
  refine ob_call (as := [.int w]) (rest := []) G (x_badWire (nI N) (nI C) F w) wX1_badWire rfl npX1_badWire rfl rfl rfl (Nat.le_of_ble_eq_true rfl) dX1_output_2 (fun r S' hp => ?_)
  obtain ⟨rfl, rfl⟩ := hp
  refine gN_if_eq g 10 dX1_output_5 (by decide) (bw_lt _ _) (fun c1 => ?_) (fun c1 => ?_)
  · obtain ⟨a, ha, ew⟩ := bw_in (by omega) c1
    subst ew
    refine gm_aload_n g dX1_output_10 rfl ?_
    refine ob_call (as := []) (rest := []) G (x_pass hN hF) wX1_pass rfl npX1_pass rfl rfl rfl (Nat.le_of_ble_eq_true rfl) dX1_output_11 (fun r S' hp => ?_)
    obtain ⟨F', rfl, hF2, rfl, h3⟩ := hp
    refine gm_pop g dX1_output_14 rfl ?_
    refine gm_aload_n g dX1_output_15 rfl ?_
    refine ob_geta G 3 rfl q34 dX1_output_16 ?_
    refine gm_iload_n g dX1_output_19 rfl ?_
    refine ob_iald (v := wrun lo hi nsk C gv a) G 3 rfl dX1_output_20 (by omega) (h3 a ha) ?_
    exact ret _ _ _ _ dX1_output_21 rfl ⟨F', rfl, hF2, by rw [if_pos c1, nI_clamp (by omega)]⟩
  · refine gm_iconst (v := nI 0) g dX1_output_8 (by decide) ?_
    exact ret _ _ _ _ dX1_output_9 rfl ⟨F, rfl, hF, by rw [if_neg c1]⟩
set_option maxHeartbeats 4000000 in
theorem x_exchanges {N C : Nat} {lo hi : Nat → Nat} {gv : Nat → Int32} {F : Nat → Nat → Int32} (hN : ok_net N C lo hi) (hF : xF F N C lo hi gv) : ob_Met K1 yX1_exchanges cX1_exchanges 1 (some .int) 1 24 [] (nI N, nI C, F) (fun r S' => ∃ F' : Nat → Nat → Int32, S' = (nI N, nI C, F') ∧ xF F' N C lo hi gv ∧ r = nI (xcnt lo hi C gv)) := by
  refine ob_intro C1 rfl rfl (Nat.le_of_ble_eq_true rfl) ?_
  intro E X G ret
  have g := G.1
  refine gm_aload_n g dX1_exchanges_0 rfl ?_
  refine ob_call (as := []) (rest := []) G (x_pass hN hF) wX1_pass rfl npX1_pass rfl rfl rfl (Nat.le_of_ble_eq_true rfl) dX1_exchanges_1 (fun r S' hp => ?_)
  obtain ⟨F', rfl, hF2, rfl, h3⟩ := hp
  exact ret _ _ _ _ dX1_exchanges_4 rfl ⟨F', rfl, hF2, rfl⟩
set_option maxHeartbeats 4000000 in
theorem x_rounds {N C : Nat} {lo hi : Nat → Nat} {gv : Nat → Int32} {F : Nat → Nat → Int32} (hN : ok_net N C lo hi) (hF : xF F N C lo hi gv) : ob_Met K1 yX1_rounds cX1_rounds 4 (some .int) 0 0 [] (nI N, nI C, F) (fun r S' => ∃ F' : Nat → Nat → Int32, S' = (nI N, nI C, F') ∧ xF F' N C lo hi gv ∧ r = nI (rdm lo hi C)) := by
  refine ob_intro C1 rfl rfl (Nat.le_of_ble_eq_true rfl) ?_
  intro E X G ret
  have g := G.1
  obtain ⟨hN2, hN7, hC24, hnet⟩ := id hN
  obtain ⟨⟨hFc, hFg⟩, hFp⟩ := id hF
  refine gm_iconst (v := nI 0) g dX1_rounds_0 (by decide) ?_
  refine gm_istore_n (lv' := [.ref (ob_h X), .int (nI 0)]) g dX1_rounds_1 rfl rfl ?_
  refine gm_iconst (v := nI 0) g dX1_rounds_2 (by decide) ?_
  refine gm_istore_n (lv' := [.ref (ob_h X), .int (nI 0), .int (nI 0)]) g dX1_rounds_3 rfl rfl ?_
  refine lq1 (A := Nat → Nat → Int32) N (fun i F' => gm E 4 (ob_I K1 X (nI N, nI C, F')) [.ref (ob_h X), .int (nI 0), .int (nI i)] 4 []) (fun i F' => xF F' N C lo hi gv ∧ ∀ x, x < i → F' 7 x = nI 0) ?_ 0 F (Nat.zero_le _) ⟨hF, fun x hx => absurd hx (Nat.not_lt_zero x)⟩
  intro i F' hle hv ih
  obtain ⟨hF2, h3⟩ := hv
  refine gm_iload_n g dX1_rounds_4 rfl ?_
  refine gm_aload_n g dX1_rounds_5 rfl ?_
  refine ob_getn G q29 dX1_rounds_6 ?_
  refine gN_icmp_ge g 25 dX1_rounds_9 (by decide) (by omega) (by omega) (fun c3 => ?_) (fun c3 => ?_)
  · have e : i = N := by omega
    subst e
    refine gm_iconst (v := nI 0) g dX1_rounds_25 (by decide) ?_
    refine gm_istore_n (lv' := [.ref (ob_h X), .int (nI 0), .int (nI 0)]) g dX1_rounds_26 rfl rfl ?_
    refine lq1 (A := Nat → Nat → Int32) C (fun k F2 => gm E 4 (ob_I K1 X (nI i, nI C, F2)) [.ref (ob_h X), .int (nI (rdm lo hi k)), .int (nI k)] 27 []) (fun k F2 => xF F2 i C lo hi gv ∧ ∀ x, x < i → F2 7 x = nI (rdl lo hi k x)) ?_ 0 F' (Nat.zero_le _) ⟨hF2, h3⟩
    intro k F2 hk hv ih2
    obtain ⟨hF3, h4⟩ := hv
    refine gm_iload_n g dX1_rounds_27 rfl ?_
    refine gm_aload_n g dX1_rounds_28 rfl ?_
    refine ob_getc G q30 dX1_rounds_29 ?_
    refine gN_icmp_ge g 137 dX1_rounds_32 (by decide) (by omega) (by omega) (fun c4 => ?_) (fun c4 => ?_)
    · have e : k = C := by omega
      subst e
      refine gm_iload_n g dX1_rounds_137 rfl ?_
      exact ret _ _ _ _ dX1_rounds_138 rfl ⟨F2, rfl, hF3, rfl⟩
    · have hL := hnet k c4
      have hc := hF3.1.1 k c4
      have hm := rdm_le lo hi k
      have hl := rdl_le lo hi k (lo k)
      have hh := rdl_le lo hi k (hi k)
      have hx := rdx_le lo hi k
      have tl : gm E 4 (ob_I K1 X (nI i, nI C, F2)) [.ref (ob_h X), .int (nI (rdm lo hi k)), .int (nI k)] 85 [.int (nI (rdx lo hi k))] := by
        refine gm_istore_n (lv' := [.ref (ob_h X), .int (nI (rdm lo hi k)), .int (nI k), .int (nI (rdx lo hi k))]) g dX1_rounds_85 rfl rfl ?_
        refine gm_aload_n g dX1_rounds_86 rfl ?_
        refine ob_geta G 7 rfl q38 dX1_rounds_87 ?_
        refine gm_aload_n g dX1_rounds_90 rfl ?_
        refine ob_geta G 0 rfl q31 dX1_rounds_91 ?_
        refine gm_iload_n g dX1_rounds_94 rfl ?_
        refine ob_bald (v := nI (lo k)) G 0 rfl dX1_rounds_95 (by omega) (hc.1) ?_
        refine gm_iload_n g dX1_rounds_96 rfl ?_
        refine gm_iconst (v := nI 1) g dX1_rounds_97 (by decide) ?_
        refine gN_iadd g dX1_rounds_98 ?_
        refine gN_i2b g dX1_rounds_99 (by omega) ?_
        refine ob_bast (y := nI ((rdx lo hi k) + 1)) G 7 rfl dX1_rounds_100 (by omega) (nb_vb (by omega)) ?_
        generalize hFa : va_up F2 7 (upd (F2 7) (lo k) (nI ((rdx lo hi k) + 1))) = Fa
        refine gm_aload_n g dX1_rounds_101 rfl ?_
        refine ob_geta G 7 rfl q38 dX1_rounds_102 ?_
        refine gm_aload_n g dX1_rounds_105 rfl ?_
        refine ob_geta G 1 rfl q32 dX1_rounds_106 ?_
        refine gm_iload_n g dX1_rounds_109 rfl ?_
        refine ob_bald (v := nI (hi k)) G 1 rfl dX1_rounds_110 (by omega) (by rw [up_n hFa (by decide)]; exact hc.2) ?_
        refine gm_iload_n g dX1_rounds_111 rfl ?_
        refine gm_iconst (v := nI 1) g dX1_rounds_112 (by decide) ?_
        refine gN_iadd g dX1_rounds_113 ?_
        refine gN_i2b g dX1_rounds_114 (by omega) ?_
        refine ob_bast (y := nI ((rdx lo hi k) + 1)) G 7 rfl dX1_rounds_115 (by omega) (nb_vb (by omega)) ?_
        generalize hFb : va_up Fa 7 (upd (Fa 7) (hi k) (nI ((rdx lo hi k) + 1))) = Fb
        refine gm_iload_n g dX1_rounds_116 rfl ?_
        refine gm_iconst (v := nI 1) g dX1_rounds_117 (by decide) ?_
        refine gN_iadd g dX1_rounds_118 ?_
        refine gm_iload_n g dX1_rounds_119 rfl ?_
        have fin : gm E 4 (ob_I K1 X (nI i, nI C, Fb)) [.ref (ob_h X), .int (nI (rdm lo hi k)), .int (nI k), .int (nI (rdx lo hi k))] 130 [.int (nI (rdm lo hi (k + 1)))] := by
          refine gm_istore_n (lv' := [.ref (ob_h X), .int (nI (rdm lo hi (k + 1))), .int (nI k), .int (nI (rdx lo hi k))]) g dX1_rounds_130 rfl rfl ?_
          refine gN_iinc (lv' := [.ref (ob_h X), .int (nI (rdm lo hi (k + 1))), .int (nI (k + 1)), .int (nI (rdx lo hi k))]) g dX1_rounds_131 rfl rfl rfl ?_
          refine gm_goto g 27 dX1_rounds_134 (by decide) ?_
          exact gm_take 3 rfl (ih2 c4 Fb ⟨xF_fr (by rw [up_n hFb (by decide), up_n hFa (by decide)]) (by rw [up_n hFb (by decide), up_n hFa (by decide)]) (by rw [up_n hFb (by decide), up_n hFa (by decide)]) (by rw [up_n hFb (by decide), up_n hFa (by decide)]) hF3, by rw [up_s hFb, up_s hFa]; exact rd_step h4⟩)
        refine gN_icmp_le g 129 dX1_rounds_120 (by decide) (by omega) (by omega) (fun c6 => ?_) (fun c6 => ?_)
        · refine gm_iload_n g dX1_rounds_129 rfl ?_
          rw [rdm_s, if_neg (by omega)] at fin
          exact fin
        · refine gm_iload_n g dX1_rounds_123 rfl ?_
          refine gm_iconst (v := nI 1) g dX1_rounds_124 (by decide) ?_
          refine gN_iadd g dX1_rounds_125 ?_
          refine gm_goto g 130 dX1_rounds_126 (by decide) ?_
          rw [rdm_s, if_pos (by omega)] at fin
          exact fin
      refine gm_aload_n g dX1_rounds_35 rfl ?_
      refine ob_geta G 7 rfl q38 dX1_rounds_36 ?_
      refine gm_aload_n g dX1_rounds_39 rfl ?_
      refine ob_geta G 0 rfl q31 dX1_rounds_40 ?_
      refine gm_iload_n g dX1_rounds_43 rfl ?_
      refine ob_bald (v := nI (lo k)) G 0 rfl dX1_rounds_44 (by omega) (hc.1) ?_
      refine ob_bald (v := nI (rdl lo hi k (lo k))) G 7 rfl dX1_rounds_45 (by omega) (h4 _ hL.1) ?_
      refine gm_aload_n g dX1_rounds_46 rfl ?_
      refine ob_geta G 7 rfl q38 dX1_rounds_47 ?_
      refine gm_aload_n g dX1_rounds_50 rfl ?_
      refine ob_geta G 1 rfl q32 dX1_rounds_51 ?_
      refine gm_iload_n g dX1_rounds_54 rfl ?_
      refine ob_bald (v := nI (hi k)) G 1 rfl dX1_rounds_55 (by omega) (hc.2) ?_
      refine ob_bald (v := nI (rdl lo hi k (hi k))) G 7 rfl dX1_rounds_56 (by omega) (h4 _ hL.2.1) ?_
      refine gN_icmp_le g 74 dX1_rounds_57 (by decide) (by omega) (by omega) (fun c5 => ?_) (fun c5 => ?_)
      · refine gm_aload_n g dX1_rounds_74 rfl ?_
        refine ob_geta G 7 rfl q38 dX1_rounds_75 ?_
        refine gm_aload_n g dX1_rounds_78 rfl ?_
        refine ob_geta G 1 rfl q32 dX1_rounds_79 ?_
        refine gm_iload_n g dX1_rounds_82 rfl ?_
        refine ob_bald (v := nI (hi k)) G 1 rfl dX1_rounds_83 (by omega) (hc.2) ?_
        refine ob_bald (v := nI (rdl lo hi k (hi k))) G 7 rfl dX1_rounds_84 (by omega) (h4 _ hL.2.1) ?_
        rw [show rdx lo hi k = rdl lo hi k (hi k) from if_neg (by omega)] at tl
        exact tl
      · refine gm_aload_n g dX1_rounds_60 rfl ?_
        refine ob_geta G 7 rfl q38 dX1_rounds_61 ?_
        refine gm_aload_n g dX1_rounds_64 rfl ?_
        refine ob_geta G 0 rfl q31 dX1_rounds_65 ?_
        refine gm_iload_n g dX1_rounds_68 rfl ?_
        refine ob_bald (v := nI (lo k)) G 0 rfl dX1_rounds_69 (by omega) (hc.1) ?_
        refine ob_bald (v := nI (rdl lo hi k (lo k))) G 7 rfl dX1_rounds_70 (by omega) (h4 _ hL.1) ?_
        refine gm_goto g 85 dX1_rounds_71 (by decide) ?_
        rw [show rdx lo hi k = rdl lo hi k (lo k) from if_pos (by omega)] at tl
        exact tl
  · refine gm_aload_n g dX1_rounds_12 rfl ?_
    refine ob_geta G 7 rfl q38 dX1_rounds_13 ?_
    refine gm_iload_n g dX1_rounds_16 rfl ?_
    refine gm_iconst (v := nI 0) g dX1_rounds_17 (by decide) ?_
    refine ob_bast (y := nI 0) G 7 rfl dX1_rounds_18 (by omega) (nb_vb (by decide)) ?_
    generalize hF1 : va_up F' 7 (upd (F' 7) i (nI 0)) = F1
    refine gN_iinc (lv' := [.ref (ob_h X), .int (nI 0), .int (nI (i + 1))]) g dX1_rounds_19 rfl rfl rfl ?_
    refine gm_goto g 4 dX1_rounds_22 (by decide) ?_
    exact ih c3 F1 ⟨xF_fr (up_n hF1 (by decide)) (up_n hF1 (by decide)) (up_n hF1 (by decide)) (up_n hF1 (by decide)) hF2, fun x hx => by
      rw [up_s hF1]
      by_cases e : x = i
      · subst e; rw [upd_s]
      · rw [upd_n _ _ e]; exact h3 x (by omega)⟩
end
section
/-! more plain words: sets -/
set_option maxRecDepth 100000
theorem lq0 (B : Nat) (T : Nat → Prop) (h : ∀ k : Nat, k ≤ B → (k < B → T (k + 1)) → T k) : ∀ k : Nat, k ≤ B → T k := by
  have key : ∀ (d k : Nat), d = B - k → k ≤ B → T k := by
    intro d
    induction d with
    | zero => intro k hd hk; exact h k hk (fun hlt => by omega)
    | succ d ih => intro k hd hk; exact h k hk (fun hlt => ih (k + 1) (by omega) (by omega))
  exact fun k hk => key _ k rfl hk
theorem dv31 {s : Nat} (h : s < 2147483648) (w : Nat) : s / 2 ^ w < 2147483648 := Nat.lt_of_le_of_lt (Nat.div_le_self _ _) h
theorem sh1 {b : Nat} (h : b < 32) : 1 * 2 ^ b < 2 ^ 32 := by
  rw [Nat.one_mul]
  exact Nat.pow_lt_pow_right (by decide) h
theorem bt_lt (b : Bool) : b.toNat < 2147483648 := by cases b <;> decide
def allq (f : Nat → Bool) : Nat → Bool
  | 0 => true
  | k + 1 => allq f k && f k
def cntq (f : Nat → Bool) : Nat → Nat
  | 0 => 0
  | k + 1 => cntq f k + (f k).toNat
theorem cntq_le (f : Nat → Bool) : ∀ k, cntq f k ≤ k := by
  intro k
  induction k with
  | zero => exact Nat.le_refl 0
  | succ k ih =>
    show cntq f k + (f k).toNat ≤ k + 1
    have : (f k).toNat ≤ 1 := Bool.toNat_le (f k)
    omega
theorem nI_m1 {k : Nat} (h : k < 2147483648) : ¬ nI k = -1 := fun e => nI_pos h (by rw [e]; decide)
theorem nsk_ok {C : Nat} (hC : C ≤ 24) : ∀ k, k < C → (nI k = -1 ↔ nsk k = true) := fun k hk => ⟨fun h => absurd h (nI_m1 (by omega)), fun h => by simp [nsk] at h⟩
def skp (a : Nat) : Nat → Bool := fun x => x == a
theorem skp_ok {C a : Nat} (hC : C ≤ 24) (ha : a < C) : ∀ k, k < C → (nI k = nI a ↔ skp a k = true) := fun k hk => by
  rw [nI_eq (by omega) (by omega)]
  simp [skp]
theorem zrun_s (lo hi : Nat → Nat) (sk : Nat → Bool) (k s : Nat) : zrun lo hi sk (k + 1) s = if sk k = true then zrun lo hi sk k s else bsw (lo k) (hi k) (zrun lo hi sk k s) := rfl
theorem szo_lt {N s x : Nat} (hx : x < N) (h : s / 2 ^ x % 2 = 0) : szo s N < N := by
  induction N with
  | zero => omega
  | succ n ih =>
    show szo s n + s / 2 ^ n % 2 < n + 1
    by_cases e : x = n
    · subst e
      have := szo_le s x
      omega
    · have := ih (by omega)
      omega
theorem rk_in {N : Nat} {r : Int32} (hN : N ≤ 7) (h1 : ¬ r < nI 1) (h2 : r ≤ nI N) : ∃ b : Nat, 1 ≤ b ∧ b ≤ N ∧ r = nI b := by
  have h0 : ¬ r < 0 := fun h => h1 (Int32.lt_trans h (by decide))
  obtain ⟨j, hj, rfl⟩ := nI_of h0
  have h3 := (nI_leI hj (by omega)).mp h2
  have h4 : ¬ j < 1 := fun h => h1 ((nI_ltI hj (by decide)).mpr h)
  exact ⟨j, by omega, h3, rfl⟩
theorem kd_lt {N k : Nat} (h : k < N * 2 ^ N) : k / N < 2 ^ N := Nat.div_lt_of_lt_mul h
theorem or_lt {N s x : Nat} (hs : s < 2 ^ N) (hx : x < N) : s ||| 2 ^ x < 2 ^ N := Nat.or_lt_two_pow hs (pw_lt hx)
theorem fill_s {f : Nat → Int32} {z : Nat → Nat} {s : Nat} (h : ∀ x, x < s → f x = nI (z x)) : ∀ x, x < s + 1 → upd f s (nI (z s)) x = nI (z x) := by
  intro x hx
  by_cases e : x = s
  · subst e; rw [upd_s]
  · rw [upd_n _ _ e]; exact h x (by omega)
end
section
set_option maxRecDepth 100000
set_option maxHeartbeats 4000000 in
theorem x_sizeOf {N : Nat} (c : Int32) (F : Nat → Nat → Int32) {s : Nat} (hN7 : N ≤ 7) (hs : s < 128) : ob_Met K1 yX1_sizeOf cX1_sizeOf 4 (some .int) 0 0 [.int (nI s)] (nI N, c, F) (fun r S' => S' = (nI N, c, F) ∧ r = nI (szo s N)) := by
  refine ob_intro C1 rfl rfl (Nat.le_of_ble_eq_true rfl) ?_
  intro E X G ret
  have g := G.1
  refine gm_iconst (v := nI 0) g dX1_sizeOf_0 (by decide) ?_
  refine gm_istore_n (lv' := [.ref (ob_h X), .int (nI s), .int (nI 0)]) g dX1_sizeOf_1 rfl rfl ?_
  refine gm_iconst (v := nI 0) g dX1_sizeOf_2 (by decide) ?_
  refine gm_istore_n (lv' := [.ref (ob_h X), .int (nI s), .int (nI 0), .int (nI 0)]) g dX1_sizeOf_3 rfl rfl ?_
  refine lq0 N (fun k => gm E 4 (ob_I K1 X (nI N, c, F)) [.ref (ob_h X), .int (nI s), .int (nI (szo s k)), .int (nI k)] 4 []) ?_ 0 (Nat.zero_le _)
  intro k hk ih
  have hz := szo_le s k
  refine gm_iload_n g dX1_sizeOf_4 rfl ?_
  refine gm_aload_n g dX1_sizeOf_5 rfl ?_
  refine ob_getn G q29 dX1_sizeOf_6 ?_
  refine gN_icmp_ge g 26 dX1_sizeOf_9 (by decide) (by omega) (by omega) (fun c1 => ?_) (fun c1 => ?_)
  · have e : k = N := by omega
    subst e
    refine gm_iload_n g dX1_sizeOf_26 rfl ?_
    exact ret _ _ _ _ dX1_sizeOf_27 rfl ⟨rfl, rfl⟩
  · refine gm_iload_n g dX1_sizeOf_12 rfl ?_
    refine gm_iload_n g dX1_sizeOf_13 rfl ?_
    refine gm_iload_n g dX1_sizeOf_14 rfl ?_
    refine gN_ishr g dX1_sizeOf_15 (by omega) (by omega) ?_
    refine gm_iconst (v := nI 1) g dX1_sizeOf_16 (by decide) ?_
    refine gN_iand1 g dX1_sizeOf_17 (dv31 (by omega) _) ?_
    refine gN_iadd g dX1_sizeOf_18 ?_
    refine gm_istore_n (lv' := [.ref (ob_h X), .int (nI s), .int (nI ((szo s k) + ((s / 2 ^ k) % 2))), .int (nI k)]) g dX1_sizeOf_19 rfl rfl ?_
    refine gN_iinc (lv' := [.ref (ob_h X), .int (nI s), .int (nI ((szo s k) + ((s / 2 ^ k) % 2))), .int (nI (k + 1))]) g dX1_sizeOf_20 rfl rfl rfl ?_
    refine gm_goto g 4 dX1_sizeOf_23 (by decide) ?_
    exact ih c1
set_option maxHeartbeats 4000000 in
theorem x_behind {N C : Nat} {lo hi : Nat → Nat} {gv : Nat → Int32} {F : Nat → Nat → Int32} (hN : ok_net N C lo hi) (hF : xF F N C lo hi gv) {s k : Nat} (hs : s < 2 ^ N) (hk : k < C) : ob_Met K1 yX1_behind cX1_behind 5 (some .int) 0 0 [.int (nI s), .int (nI k)] (nI N, nI C, F) (fun r S' => S' = (nI N, nI C, F) ∧ r = nI (bsw (lo k) (hi k) s)) := by
  refine ob_intro C1 rfl rfl (Nat.le_of_ble_eq_true rfl) ?_
  intro E X G ret
  have g := G.1
  obtain ⟨hN2, hN7, hC24, hnet⟩ := id hN
  obtain ⟨⟨hFc, hFg⟩, hFp⟩ := id hF
  have hp := pw_128 hN7
  have hL := hnet k hk
  have hc := hFc k hk
  refine gm_iload_n g dX1_behind_0 rfl ?_
  refine gm_aload_n g dX1_behind_1 rfl ?_
  refine ob_geta G 0 rfl q31 dX1_behind_2 ?_
  refine gm_iload_n g dX1_behind_5 rfl ?_
  refine ob_bald (v := nI (lo k)) G 0 rfl dX1_behind_6 (by omega) (hc.1) ?_
  refine gN_ishr g dX1_behind_7 (by omega) (by omega) ?_
  refine gm_iconst (v := nI 1) g dX1_behind_8 (by decide) ?_
  refine gN_iand1 g dX1_behind_9 (dv31 (by omega) _) ?_
  refine gm_istore_n (lv' := [.ref (ob_h X), .int (nI s), .int (nI k), .int (nI ((s / 2 ^ (lo k)) % 2))]) g dX1_behind_10 rfl rfl ?_
  refine gm_iload_n g dX1_behind_11 rfl ?_
  refine gm_aload_n g dX1_behind_12 rfl ?_
  refine ob_geta G 1 rfl q32 dX1_behind_13 ?_
  refine gm_iload_n g dX1_behind_16 rfl ?_
  refine ob_bald (v := nI (hi k)) G 1 rfl dX1_behind_17 (by omega) (hc.2) ?_
  refine gN_ishr g dX1_behind_18 (by omega) (by omega) ?_
  refine gm_iconst (v := nI 1) g dX1_behind_19 (by decide) ?_
  refine gN_iand1 g dX1_behind_20 (dv31 (by omega) _) ?_
  refine gm_istore (lv' := [.ref (ob_h X), .int (nI s), .int (nI k), .int (nI ((s / 2 ^ (lo k)) % 2)), .int (nI ((s / 2 ^ (hi k)) % 2))]) g dX1_behind_21 rfl rfl ?_
  refine gm_iload_n g dX1_behind_23 rfl ?_
  refine gm_iload g dX1_behind_24 rfl ?_
  refine gN_icmp_le g 51 dX1_behind_26 (by decide) (by omega) (by omega) (fun c1 => ?_) (fun c1 => ?_)
  · refine gm_iload_n g dX1_behind_51 rfl ?_
    exact ret _ _ _ _ dX1_behind_52 rfl ⟨rfl, by unfold bsw; rw [if_neg (by omega)]⟩
  · refine gm_iload_n g dX1_behind_29 rfl ?_
    refine gm_iconst (v := nI 1) g dX1_behind_30 (by decide) ?_
    refine gm_aload_n g dX1_behind_31 rfl ?_
    refine ob_geta G 0 rfl q31 dX1_behind_32 ?_
    refine gm_iload_n g dX1_behind_35 rfl ?_
    refine ob_bald (v := nI (lo k)) G 0 rfl dX1_behind_36 (by omega) (hc.1) ?_
    refine gN_ishl g dX1_behind_37 (by omega) (sh1 (by omega)) ?_
    refine gm_eqi (y := nI (2 ^ (lo k))) (by rw [Nat.one_mul]) ?_
    refine gm_iconst (v := nI 1) g dX1_behind_38 (by decide) ?_
    refine gm_aload_n g dX1_behind_39 rfl ?_
    refine ob_geta G 1 rfl q32 dX1_behind_40 ?_
    refine gm_iload_n g dX1_behind_43 rfl ?_
    refine ob_bald (v := nI (hi k)) G 1 rfl dX1_behind_44 (by omega) (hc.2) ?_
    refine gN_ishl g dX1_behind_45 (by omega) (sh1 (by omega)) ?_
    refine gm_eqi (y := nI (2 ^ (hi k))) (by rw [Nat.one_mul]) ?_
    refine gN_ior g dX1_behind_46 ?_
    refine gN_ixor g dX1_behind_47 ?_
    refine gm_goto g 52 dX1_behind_48 (by decide) ?_
    exact ret _ _ _ _ dX1_behind_52 rfl ⟨rfl, by unfold bsw; rw [if_pos c1]⟩
set_option maxHeartbeats 4000000 in
theorem x_findSets {N C : Nat} {lo hi : Nat → Nat} {gv : Nat → Int32} {F : Nat → Nat → Int32} (hN : ok_net N C lo hi) (hF : xF F N C lo hi gv) {mm : Nat} (wo : Int32) (sk : Nat → Bool) (hm : mm ≤ C) (hsk : ∀ k, k < mm → (nI k = wo ↔ sk k = true)) : ob_MetV K1 yX1_findSets cX1_findSets 6 1 24 [.int (nI mm), .int wo] (nI N, nI C, F) (fun S' => ∃ F' : Nat → Nat → Int32, S' = (nI N, nI C, F') ∧ (∀ j, j ≠ 4 → F' j = F j) ∧ ∀ s, s < 2 ^ N → F' 4 s = nI (zrun lo hi sk mm s)) := by
  refine ob_introV C1 rfl rfl (Nat.le_of_ble_eq_true rfl) ?_
  intro E X G ret
  have g := G.1
  obtain ⟨hN2, hN7, hC24, hnet⟩ := id hN
  obtain ⟨⟨hFc, hFg⟩, hFp⟩ := id hF
  have hp := pw_128 hN7
  refine gm_iconst (v := nI 0) g dX1_findSets_0 (by decide) ?_
  refine gm_istore_n (lv' := [.ref (ob_h X), .int (nI mm), .int wo, .int (nI 0)]) g dX1_findSets_1 rfl rfl ?_
  refine lq1 (A := Nat → Nat → Int32) (2 ^ N) (fun s F' => gm E 6 (ob_I K1 X (nI N, nI C, F')) [.ref (ob_h X), .int (nI mm), .int wo, .int (nI s)] 2 []) (fun s F' => (∀ j, j ≠ 4 → F' j = F j) ∧ ∀ x, x < s → F' 4 x = nI (zrun lo hi sk mm x)) ?_ 0 F (Nat.zero_le _) ⟨fun _ _ => rfl, fun x hx => absurd hx (Nat.not_lt_zero x)⟩
  intro s F' hs hv ih
  obtain ⟨hfr, h4⟩ := hv
  have hF2 : xF F' N C lo hi gv := xF_fr (hfr 0 (by decide)) (hfr 1 (by decide)) (hfr 2 (by decide)) (hfr 8 (by decide)) hF
  refine gm_iload_n g dX1_findSets_2 rfl ?_
  refine gm_iconst (v := nI 1) g dX1_findSets_3 (by decide) ?_
  refine gm_aload_n g dX1_findSets_4 rfl ?_
  refine ob_getn G q29 dX1_findSets_5 ?_
  refine gN_ishl g dX1_findSets_8 (by omega) (sh1 (by omega)) ?_
  refine gm_eqi (y := nI (2 ^ N)) (by rw [Nat.one_mul]) ?_
  refine gN_icmp_ge g 66 dX1_findSets_9 (by decide) (by omega) (by omega) (fun c1 => ?_) (fun c1 => ?_)
  · have e : s = 2 ^ N := by omega
    exact ret _ _ _ dX1_findSets_66 ⟨F', rfl, hfr, fun x hx => h4 x (by omega)⟩
  · refine gm_iload_n g dX1_findSets_12 rfl ?_
    refine gm_istore (lv' := [.ref (ob_h X), .int (nI mm), .int wo, .int (nI s), .int (nI s)]) g dX1_findSets_13 rfl rfl ?_
    refine gm_iconst (v := nI 0) g dX1_findSets_15 (by decide) ?_
    refine gm_istore (lv' := [.ref (ob_h X), .int (nI mm), .int wo, .int (nI s), .int (nI s), .int (nI 0)]) g dX1_findSets_16 rfl rfl ?_
    refine lq0 mm (fun k => gm E 6 (ob_I K1 X (nI N, nI C, F')) [.ref (ob_h X), .int (nI mm), .int wo, .int (nI s), .int (nI (zrun lo hi sk k s)), .int (nI k)] 18 []) ?_ 0 (Nat.zero_le _)
    intro k hk ih2
    have hz := zrun_lt sk hnet c1 k (by omega)
    refine gm_iload g dX1_findSets_18 rfl ?_
    refine gm_iload_n g dX1_findSets_20 rfl ?_
    refine gN_icmp_ge g 51 dX1_findSets_21 (by decide) (by omega) (by omega) (fun c2 => ?_) (fun c2 => ?_)
    · have e : k = mm := by omega
      subst e
      refine gm_aload_n g dX1_findSets_51 rfl ?_
      refine ob_geta G 4 rfl q35 dX1_findSets_52 ?_
      refine gm_iload_n g dX1_findSets_55 rfl ?_
      refine gm_iload g dX1_findSets_56 rfl ?_
      refine gN_i2s g dX1_findSets_58 (by omega) ?_
      refine ob_sast (y := nI (zrun lo hi sk k s)) G 4 rfl dX1_findSets_59 (by omega) (nb_vs (by omega)) ?_
      generalize hF1 : va_up F' 4 (upd (F' 4) s (nI (zrun lo hi sk k s))) = F1
      refine gN_iinc (lv' := [.ref (ob_h X), .int (nI k), .int wo, .int (nI (s + 1)), .int (nI (zrun lo hi sk k s)), .int (nI k)]) g dX1_findSets_60 rfl rfl rfl ?_
      refine gm_goto g 2 dX1_findSets_63 (by decide) ?_
      exact gm_take 4 rfl (ih c1 F1 ⟨fun j hj => by rw [up_n hF1 hj]; exact hfr j hj, by rw [up_s hF1]; exact fill_s h4⟩)
    · have tl : gm E 6 (ob_I K1 X (nI N, nI C, F')) [.ref (ob_h X), .int (nI mm), .int wo, .int (nI s), .int (nI (zrun lo hi sk k s)), .int (nI k)] 43 [.int (nI (zrun lo hi sk (k + 1) s))] := by
        refine gm_istore (lv' := [.ref (ob_h X), .int (nI mm), .int wo, .int (nI s), .int (nI (zrun lo hi sk (k + 1) s)), .int (nI k)]) g dX1_findSets_43 rfl rfl ?_
        refine gN_iinc (lv' := [.ref (ob_h X), .int (nI mm), .int wo, .int (nI s), .int (nI (zrun lo hi sk (k + 1) s)), .int (nI (k + 1))]) g dX1_findSets_45 rfl rfl rfl ?_
        refine gm_goto g 18 dX1_findSets_48 (by decide) ?_
        exact ih2 c2
      refine gm_iload g dX1_findSets_24 rfl ?_
      refine gm_iload_n g dX1_findSets_26 rfl ?_
      refine gm_icmp_ne g 35 dX1_findSets_27 (by decide) (fun c3 => ?_) (fun c3 => ?_)
      · refine gm_aload_n g dX1_findSets_35 rfl ?_
        refine gm_iload g dX1_findSets_36 rfl ?_
        refine gm_iload g dX1_findSets_38 rfl ?_
        refine ob_call (as := [.int (nI (zrun lo hi sk k s)), .int (nI k)]) (rest := []) G (x_behind hN hF2 hz (show k < C by omega)) wX1_behind rfl npX1_behind rfl rfl rfl (Nat.le_of_ble_eq_true rfl) dX1_findSets_40 (fun r S' hp => ?_)
        obtain ⟨rfl, rfl⟩ := hp
        rw [zrun_s, if_neg (fun h => c3 ((hsk k c2).mpr h))] at tl
        exact tl
      · refine gm_iload g dX1_findSets_30 rfl ?_
        refine gm_goto g 43 dX1_findSets_32 (by decide) ?_
        rw [zrun_s, if_pos ((hsk k c2).mp c3)] at tl
        exact tl
set_option maxHeartbeats 4000000 in
theorem x_inPlace {N : Nat} (c : Int32) (F : Nat → Nat → Int32) (z : Nat → Nat) {s : Nat} (hN7 : N ≤ 7) (hs : s < 2 ^ N) (hz : z s < 2 ^ N) (h4 : F 4 s = nI (z s)) : ob_Met K1 yX1_inPlace cX1_inPlace 3 (some .boolean) 1 23 [.int (nI s)] (nI N, c, F) (fun r S' => S' = (nI N, c, F) ∧ r = nI (inpl N z s).toNat) := by
  refine ob_intro C1 rfl rfl (Nat.le_of_ble_eq_true rfl) ?_
  intro E X G ret
  have g := G.1
  have hp := pw_128 hN7
  refine gm_aload_n g dX1_inPlace_0 rfl ?_
  refine gm_iload_n g dX1_inPlace_1 rfl ?_
  refine ob_call (as := [.int (nI s)]) (rest := []) G (x_sizeOf c F hN7 (show s < 128 by omega)) wX1_sizeOf rfl npX1_sizeOf rfl rfl rfl (Nat.le_of_ble_eq_true rfl) dX1_inPlace_2 (fun r S' hp => ?_)
  obtain ⟨rfl, rfl⟩ := hp
  have hle := szo_le s N
  have hpw : 2 ^ (N - szo s N) ≤ 2 ^ N := Nat.pow_le_pow_right (by decide) (Nat.sub_le _ _)
  refine gm_istore_n (lv' := [.ref (ob_h X), .int (nI s), .int (nI (szo s N))]) g dX1_inPlace_5 rfl rfl ?_
  refine gm_aload_n g dX1_inPlace_6 rfl ?_
  refine ob_geta G 4 rfl q35 dX1_inPlace_7 ?_
  refine gm_iload_n g dX1_inPlace_10 rfl ?_
  refine ob_sald (v := nI (z s)) G 4 rfl dX1_inPlace_11 (by omega) (h4) ?_
  refine gm_iconst (v := nI 1) g dX1_inPlace_12 (by decide) ?_
  refine gm_aload_n g dX1_inPlace_13 rfl ?_
  refine ob_getn G q29 dX1_inPlace_14 ?_
  refine gN_ishl g dX1_inPlace_17 (by omega) (sh1 (by omega)) ?_
  refine gm_eqi (y := nI (2 ^ N)) (by rw [Nat.one_mul]) ?_
  refine gm_iconst (v := nI 1) g dX1_inPlace_18 (by decide) ?_
  refine gm_aload_n g dX1_inPlace_19 rfl ?_
  refine ob_getn G q29 dX1_inPlace_20 ?_
  refine gm_iload_n g dX1_inPlace_23 rfl ?_
  refine gN_isub g dX1_inPlace_24 (by omega) ?_
  refine gN_ishl g dX1_inPlace_25 (by omega) (sh1 (by omega)) ?_
  refine gm_eqi (y := nI (2 ^ (N - (szo s N)))) (by rw [Nat.one_mul]) ?_
  refine gN_isub g dX1_inPlace_26 (hpw) ?_
  refine gN_icmp_ne g 34 dX1_inPlace_27 (by decide) (by omega) (Nat.lt_of_le_of_lt (Nat.sub_le _ _) (by omega)) (fun c1 => ?_) (fun c1 => ?_)
  · refine gm_iconst (v := nI 0) g dX1_inPlace_34 (by decide) ?_
    exact ret _ _ _ _ dX1_inPlace_35 rfl ⟨rfl, by rw [show inpl N z s = false from beq_false_of_ne c1]; rfl⟩
  · refine gm_iconst (v := nI 1) g dX1_inPlace_30 (by decide) ?_
    refine gm_goto g 35 dX1_inPlace_31 (by decide) ?_
    exact ret _ _ _ _ dX1_inPlace_35 rfl ⟨rfl, by rw [show inpl N z s = true from beq_iff_eq.mpr c1]; rfl⟩
set_option maxHeartbeats 4000000 in
theorem x_sorts {N C : Nat} {lo hi : Nat → Nat} {gv : Nat → Int32} {F : Nat → Nat → Int32} (hN : ok_net N C lo hi) (hF : xF F N C lo hi gv) : ob_Met K1 yX1_sorts cX1_sorts 4 (some .int) 2 49 [] (nI N, nI C, F) (fun r S' => ∃ F' : Nat → Nat → Int32, S' = (nI N, nI C, F') ∧ xF F' N C lo hi gv ∧ r = nI (allq (inpl N (zrun lo hi nsk C)) (2 ^ N)).toNat) := by
  refine ob_intro C1 rfl rfl (Nat.le_of_ble_eq_true rfl) ?_
  intro E X G ret
  have g := G.1
  obtain ⟨hN2, hN7, hC24, hnet⟩ := id hN
  obtain ⟨⟨hFc, hFg⟩, hFp⟩ := id hF
  have hp := pw_128 hN7
  refine gm_aload_n g dX1_sorts_0 rfl ?_
  refine gm_aload_n g dX1_sorts_1 rfl ?_
  refine ob_getc G q30 dX1_sorts_2 ?_
  refine gm_iconst (v := -1) g dX1_sorts_5 (by decide) ?_
  refine ob_callv (as := [.int (nI C), .int (-1)]) (rest := []) G (x_findSets hN hF (mm := C) (-1) nsk (Nat.le_refl C) (nsk_ok hC24)) wX1_findSets rfl npX1_findSets rfl rfl rfl (Nat.le_of_ble_eq_true rfl) dX1_sorts_6 (fun S' hp => ?_)
  obtain ⟨F1, rfl, hfr, hbc⟩ := hp
  have hF2 : xF F1 N C lo hi gv := xF_fr (hfr 0 (by decide)) (hfr 1 (by decide)) (hfr 2 (by decide)) (hfr 8 (by decide)) hF
  have hzl : ∀ s, s < 2 ^ N → zrun lo hi nsk C s < 2 ^ N := fun s hs => zrun_lt nsk hnet hs C (Nat.le_refl C)
  generalize zrun lo hi nsk C = z at hbc hzl ret
  refine gm_iconst (v := nI 1) g dX1_sorts_9 (by decide) ?_
  refine gm_istore_n (lv' := [.ref (ob_h X), .int (nI 1)]) g dX1_sorts_10 rfl rfl ?_
  refine gm_iconst (v := nI 0) g dX1_sorts_11 (by decide) ?_
  refine gm_istore_n (lv' := [.ref (ob_h X), .int (nI 1), .int (nI 0)]) g dX1_sorts_12 rfl rfl ?_
  refine lq0 (2 ^ N) (fun s => gm E 4 (ob_I K1 X (nI N, nI C, F1)) [.ref (ob_h X), .int (nI ((allq (inpl N z) s).toNat)), .int (nI s)] 13 []) ?_ 0 (Nat.zero_le _)
  intro s hs ih
  refine gm_iload_n g dX1_sorts_13 rfl ?_
  refine gm_iconst (v := nI 1) g dX1_sorts_14 (by decide) ?_
  refine gm_aload_n g dX1_sorts_15 rfl ?_
  refine ob_getn G q29 dX1_sorts_16 ?_
  refine gN_ishl g dX1_sorts_19 (by omega) (sh1 (by omega)) ?_
  refine gm_eqi (y := nI (2 ^ N)) (by rw [Nat.one_mul]) ?_
  refine gN_icmp_ge g 49 dX1_sorts_20 (by decide) (by omega) (by omega) (fun c1 => ?_) (fun c1 => ?_)
  · have e : s = 2 ^ N := by omega
    rw [e]
    generalize allq (inpl N z) (2 ^ N) = bb at ret
    refine gm_iload_n g dX1_sorts_49 rfl ?_
    refine gN_if_eq g 57 dX1_sorts_50 (by decide) (bt_lt _) (fun c2 => ?_) (fun c2 => ?_)
    · cases bb with
      | true => exact absurd c2 (by decide)
      | false =>
        refine gm_iconst (v := nI 0) g dX1_sorts_57 (by decide) ?_
        exact ret _ _ _ _ dX1_sorts_58 rfl ⟨F1, rfl, hF2, rfl⟩
    · cases bb with
      | false => exact absurd rfl c2
      | true =>
        refine gm_iconst (v := nI 1) g dX1_sorts_53 (by decide) ?_
        refine gm_goto g 58 dX1_sorts_54 (by decide) ?_
        exact ret _ _ _ _ dX1_sorts_58 rfl ⟨F1, rfl, hF2, rfl⟩
  · refine gm_aload_n g dX1_sorts_23 rfl ?_
    refine gm_iload_n g dX1_sorts_24 rfl ?_
    refine ob_call (as := [.int (nI s)]) (rest := []) G (x_inPlace (nI C) F1 z hN7 c1 (hzl s c1) (hbc s c1)) wX1_inPlace rfl npX1_inPlace rfl rfl rfl (Nat.le_of_ble_eq_true rfl) dX1_sorts_25 (fun r S' hp => ?_)
    obtain ⟨rfl, rfl⟩ := hp
    refine gm_istore_n (lv' := [.ref (ob_h X), .int (nI ((allq (inpl N z) s).toNat)), .int (nI s), .int (nI ((inpl N z s).toNat))]) g dX1_sorts_28 rfl rfl ?_
    have tl : ∀ v : Nat, v = (allq (inpl N z) (s + 1)).toNat → gm E 4 (ob_I K1 X (nI N, nI C, F1)) [.ref (ob_h X), .int (nI ((allq (inpl N z) s).toNat)), .int (nI s), .int (nI ((inpl N z s).toNat))] 42 [.int (nI v)] := by
      intro v hv
      subst hv
      refine gm_istore_n (lv' := [.ref (ob_h X), .int (nI ((allq (inpl N z) (s + 1)).toNat)), .int (nI s), .int (nI ((inpl N z s).toNat))]) g dX1_sorts_42 rfl rfl ?_
      refine gN_iinc (lv' := [.ref (ob_h X), .int (nI ((allq (inpl N z) (s + 1)).toNat)), .int (nI (s + 1)), .int (nI ((inpl N z s).toNat))]) g dX1_sorts_43 rfl rfl rfl ?_
      refine gm_goto g 13 dX1_sorts_46 (by decide) ?_
      exact gm_take 3 rfl (ih c1)
    refine gm_iload_n g dX1_sorts_29 rfl ?_
    refine gN_if_eq g 41 dX1_sorts_30 (by decide) (bt_lt _) (fun c2 => ?_) (fun c2 => ?_)
    · refine gm_iconst (v := nI 0) g dX1_sorts_41 (by decide) ?_
      exact tl 0 (by show _ = (allq (inpl N z) s && inpl N z s).toNat; rw [show allq (inpl N z) s = false from by revert c2; cases allq (inpl N z) s <;> simp]; rfl)
    · have e1 : allq (inpl N z) s = true := by revert c2; cases allq (inpl N z) s <;> simp
      refine gm_iload_n g dX1_sorts_33 rfl ?_
      refine gN_if_eq g 41 dX1_sorts_34 (by decide) (bt_lt _) (fun c3 => ?_) (fun c3 => ?_)
      · refine gm_iconst (v := nI 0) g dX1_sorts_41 (by decide) ?_
        exact tl 0 (by show _ = (allq (inpl N z) s && inpl N z s).toNat; rw [show inpl N z s = false from by revert c3; cases inpl N z s <;> simp, e1]; rfl)
      · refine gm_iconst (v := nI 1) g dX1_sorts_37 (by decide) ?_
        refine gm_goto g 42 dX1_sorts_38 (by decide) ?_
        exact tl 1 (by show _ = (allq (inpl N z) s && inpl N z s).toNat; rw [show inpl N z s = true from by revert c3; cases inpl N z s <;> simp, e1]; rfl)
set_option maxHeartbeats 4000000 in
theorem x_sorted {N C : Nat} {lo hi : Nat → Nat} {gv : Nat → Int32} {F : Nat → Nat → Int32} (hN : ok_net N C lo hi) (hF : xF F N C lo hi gv) : ob_Met K1 yX1_sorted cX1_sorted 4 (some .int) 2 49 [] (nI N, nI C, F) (fun r S' => ∃ (F' : Nat → Nat → Int32) (c : Nat → Nat), S' = (nI N, nI C, F') ∧ xF F' N C lo hi gv ∧ chn N (inpl N (zrun lo hi nsk C)) (2 ^ N) c ∧ r = nI (c (2 ^ N - 1))) := by
  refine ob_intro C1 rfl rfl (Nat.le_of_ble_eq_true rfl) ?_
  intro E X G ret
  have g := G.1
  obtain ⟨hN2, hN7, hC24, hnet⟩ := id hN
  obtain ⟨⟨hFc, hFg⟩, hFp⟩ := id hF
  have hp := pw_128 hN7
  have hp0 := pw_pos N
  refine gm_aload_n g dX1_sorted_0 rfl ?_
  refine gm_aload_n g dX1_sorted_1 rfl ?_
  refine ob_getc G q30 dX1_sorted_2 ?_
  refine gm_iconst (v := -1) g dX1_sorted_5 (by decide) ?_
  refine ob_callv (as := [.int (nI C), .int (-1)]) (rest := []) G (x_findSets hN hF (mm := C) (-1) nsk (Nat.le_refl C) (nsk_ok hC24)) wX1_findSets rfl npX1_findSets rfl rfl rfl (Nat.le_of_ble_eq_true rfl) dX1_sorted_6 (fun S' hp => ?_)
  obtain ⟨F1, rfl, hfr, hbc⟩ := hp
  have hF2a : xF F1 N C lo hi gv := xF_fr (hfr 0 (by decide)) (hfr 1 (by decide)) (hfr 2 (by decide)) (hfr 8 (by decide)) hF
  have hzl : ∀ s, s < 2 ^ N → zrun lo hi nsk C s < 2 ^ N := fun s hs => zrun_lt nsk hnet hs C (Nat.le_refl C)
  generalize zrun lo hi nsk C = z at hbc hzl ret
  refine gm_aload_n g dX1_sorted_9 rfl ?_
  refine ob_geta G 6 rfl q37 dX1_sorted_10 ?_
  refine gm_iconst (v := nI 0) g dX1_sorted_13 (by decide) ?_
  refine gm_iconst (v := nI 1) g dX1_sorted_14 (by decide) ?_
  refine ob_iast G 6 rfl dX1_sorted_15 (by omega) ?_
  generalize hF2 : va_up F1 6 (upd (F1 6) 0 (nI 1)) = F2
  refine gm_iconst (v := nI 1) g dX1_sorted_16 (by decide) ?_
  refine gm_istore_n (lv' := [.ref (ob_h X), .int (nI 1)]) g dX1_sorted_17 rfl rfl ?_
  refine lq2 (A := Nat → Nat → Int32) (A2 := Nat → Nat) (2 ^ N) (fun s F' _ => gm E 4 (ob_I K1 X (nI N, nI C, F')) [.ref (ob_h X), .int (nI s)] 18 []) (fun s F' c => 1 ≤ s ∧ (∀ j, j ≠ 6 → F' j = F1 j) ∧ chn N (inpl N z) s c ∧ ∀ x, x < s → F' 6 x = nI (c x)) ?_ 1 F2 (fun _ => 1) (by omega) ⟨Nat.le_refl 1, fun j hj => up_n hF2 hj, ⟨rfl, fun s h0 hs => absurd hs (by omega)⟩, fun x hx => by
    rw [up_s hF2, show x = 0 by omega, upd_s]⟩
  intro s F' c hs hv ih
  obtain ⟨hs1, hfr2, hch, h6⟩ := hv
  refine gm_iload_n g dX1_sorted_18 rfl ?_
  refine gm_iconst (v := nI 1) g dX1_sorted_19 (by decide) ?_
  refine gm_aload_n g dX1_sorted_20 rfl ?_
  refine ob_getn G q29 dX1_sorted_21 ?_
  refine gN_ishl g dX1_sorted_24 (by omega) (sh1 (by omega)) ?_
  refine gm_eqi (y := nI (2 ^ N)) (by rw [Nat.one_mul]) ?_
  refine gN_icmp_ge g 99 dX1_sorted_25 (by decide) (by omega) (by omega) (fun c1 => ?_) (fun c1 => ?_)
  · have e : s = 2 ^ N := by omega
    have hF4 : xF F' N C lo hi gv := xF_fr (hfr2 0 (by decide)) (hfr2 1 (by decide)) (hfr2 2 (by decide)) (hfr2 8 (by decide)) hF2a
    refine gm_aload_n g dX1_sorted_99 rfl ?_
    refine ob_geta G 6 rfl q37 dX1_sorted_100 ?_
    refine gm_iconst (v := nI 1) g dX1_sorted_103 (by decide) ?_
    refine gm_aload_n g dX1_sorted_104 rfl ?_
    refine ob_getn G q29 dX1_sorted_105 ?_
    refine gN_ishl g dX1_sorted_108 (by omega) (sh1 (by omega)) ?_
    refine gm_eqi (y := nI (2 ^ N)) (by rw [Nat.one_mul]) ?_
    refine gm_iconst (v := nI 1) g dX1_sorted_109 (by decide) ?_
    refine gN_isub g dX1_sorted_110 (by omega) ?_
    refine ob_iald (v := nI (c (2 ^ N - 1))) G 6 rfl dX1_sorted_111 (by omega) (h6 _ (by omega)) ?_
    exact ret _ _ _ _ dX1_sorted_112 rfl ⟨F', c, rfl, hF4, by rw [← e]; exact hch, rfl⟩
  · refine gm_iconst (v := nI 0) g dX1_sorted_28 (by decide) ?_
    refine gm_istore_n (lv' := [.ref (ob_h X), .int (nI s), .int (nI 0)]) g dX1_sorted_29 rfl rfl ?_
    refine gm_iconst (v := nI 0) g dX1_sorted_30 (by decide) ?_
    refine gm_istore_n (lv' := [.ref (ob_h X), .int (nI s), .int (nI 0), .int (nI 0)]) g dX1_sorted_31 rfl rfl ?_
    have inn : gm E 4 (ob_I K1 X (nI N, nI C, F')) [.ref (ob_h X), .int (nI s), .int (nI (csum s c N)), .int (nI N)] 72 [] := by
      refine gm_aload_n g dX1_sorted_72 rfl ?_
      refine gm_iload_n g dX1_sorted_73 rfl ?_
      refine ob_call (as := [.int (nI s)]) (rest := []) G (x_inPlace (nI C) F' z hN7 c1 (hzl s c1) (by rw [hfr2 4 (by decide)]; exact hbc s c1)) wX1_inPlace rfl npX1_inPlace rfl rfl rfl (Nat.le_of_ble_eq_true rfl) dX1_sorted_74 (fun r S' hp => ?_)
      obtain ⟨rfl, rfl⟩ := hp
      refine gm_istore_n (lv' := [.ref (ob_h X), .int (nI s), .int (nI (csum s c N)), .int (nI ((inpl N z s).toNat))]) g dX1_sorted_77 rfl rfl ?_
      refine gm_aload_n g dX1_sorted_78 rfl ?_
      refine ob_geta G 6 rfl q37 dX1_sorted_79 ?_
      refine gm_iload_n g dX1_sorted_82 rfl ?_
      have tl : gm E 4 (ob_I K1 X (nI N, nI C, F')) [.ref (ob_h X), .int (nI s), .int (nI (csum s c N)), .int (nI ((inpl N z s).toNat))] 92 [.int (nI (if inpl N z s = true then csum s c N else 0)), .int (nI s), .ref (ob_a X 6)] := by
        refine ob_iast G 6 rfl dX1_sorted_92 (by omega) ?_
        generalize hF3 : va_up F' 6 (upd (F' 6) s (nI (if inpl N z s = true then csum s c N else 0))) = F3
        refine gN_iinc (lv' := [.ref (ob_h X), .int (nI (s + 1)), .int (nI (csum s c N)), .int (nI ((inpl N z s).toNat))]) g dX1_sorted_93 rfl rfl rfl ?_
        refine gm_goto g 18 dX1_sorted_96 (by decide) ?_
        exact gm_take 2 rfl (ih c1 F3 _ ⟨by omega, fun j hj => by rw [up_n hF3 hj]; exact hfr2 j hj, chn_step hN7 (by omega) hch (by omega), by
          rw [up_s hF3]
          intro x hx
          by_cases e : x = s
          · subst e; rw [upd_s, va_up_self]
          · rw [upd_n _ _ e, va_up_ne _ _ e]; exact h6 x (by omega)⟩)
      refine gm_iload_n g dX1_sorted_83 rfl ?_
      refine gN_if_eq g 91 dX1_sorted_84 (by decide) (bt_lt _) (fun c2 => ?_) (fun c2 => ?_)
      · refine gm_iconst (v := nI 0) g dX1_sorted_91 (by decide) ?_
        rw [if_neg (by revert c2; cases inpl N z s <;> simp)] at tl
        exact tl
      · refine gm_iload_n g dX1_sorted_87 rfl ?_
        refine gm_goto g 92 dX1_sorted_88 (by decide) ?_
        rw [if_pos (by revert c2; cases inpl N z s <;> simp)] at tl
        exact tl
    refine lq0 N (fun k => gm E 4 (ob_I K1 X (nI N, nI C, F')) [.ref (ob_h X), .int (nI s), .int (nI (csum s c k)), .int (nI k)] 32 []) ?_ 0 (Nat.zero_le _)
    intro k hk ih2
    refine gm_iload_n g dX1_sorted_32 rfl ?_
    refine gm_aload_n g dX1_sorted_33 rfl ?_
    refine ob_getn G q29 dX1_sorted_34 ?_
    refine gN_icmp_ge g 72 dX1_sorted_37 (by decide) (by omega) (by omega) (fun c2 => ?_) (fun c2 => ?_)
    · have e : k = N := by omega
      rw [e]
      exact inn
    · have tl : gm E 4 (ob_I K1 X (nI N, nI C, F')) [.ref (ob_h X), .int (nI s), .int (nI (csum s c k)), .int (nI k)] 65 [.int (nI (csum s c (k + 1)))] := by
        refine gm_istore_n (lv' := [.ref (ob_h X), .int (nI s), .int (nI (csum s c (k + 1))), .int (nI k)]) g dX1_sorted_65 rfl rfl ?_
        refine gN_iinc (lv' := [.ref (ob_h X), .int (nI s), .int (nI (csum s c (k + 1))), .int (nI (k + 1))]) g dX1_sorted_66 rfl rfl rfl ?_
        refine gm_goto g 32 dX1_sorted_69 (by decide) ?_
        exact ih2 c2
      refine gm_iload_n g dX1_sorted_40 rfl ?_
      refine gm_iload_n g dX1_sorted_41 rfl ?_
      refine gN_ishr g dX1_sorted_42 (by omega) (by omega) ?_
      refine gm_iconst (v := nI 1) g dX1_sorted_43 (by decide) ?_
      refine gN_iand1 g dX1_sorted_44 (dv31 (by omega) _) ?_
      refine gm_iconst (v := nI 1) g dX1_sorted_45 (by decide) ?_
      refine gN_icmp_ne g 64 dX1_sorted_46 (by decide) (by omega) (by omega) (fun c3 => ?_) (fun c3 => ?_)
      · refine gm_iload_n g dX1_sorted_64 rfl ?_
        rw [show csum s c (k + 1) = csum s c k from by show csum s c k + _ = _; rw [if_neg c3]; rfl] at tl
        exact tl
      · have hxl := xor_bit_lt s (by omega) k (by omega) c3
        refine gm_iload_n g dX1_sorted_49 rfl ?_
        refine gm_aload_n g dX1_sorted_50 rfl ?_
        refine ob_geta G 6 rfl q37 dX1_sorted_51 ?_
        refine gm_iload_n g dX1_sorted_54 rfl ?_
        refine gm_iconst (v := nI 1) g dX1_sorted_55 (by decide) ?_
        refine gm_iload_n g dX1_sorted_56 rfl ?_
        refine gN_ishl g dX1_sorted_57 (by omega) (sh1 (by omega)) ?_
        refine gm_eqi (y := nI (2 ^ k)) (by rw [Nat.one_mul]) ?_
        refine gN_ixor g dX1_sorted_58 ?_
        refine ob_iald (v := nI (c (s ^^^ 2 ^ k))) G 6 rfl dX1_sorted_59 (by omega) (h6 _ hxl) ?_
        refine gN_iadd g dX1_sorted_60 ?_
        refine gm_goto g 65 dX1_sorted_61 (by decide) ?_
        rw [show csum s c (k + 1) = csum s c k + c (s ^^^ 2 ^ k) from by show csum s c k + _ = _; rw [if_pos c3]] at tl
        exact tl
end
section
set_option maxRecDepth 100000
set_option maxHeartbeats 4000000 in
theorem x_ordersAt {N : Nat} (c : Int32) (F : Nat → Nat → Int32) {s : Nat} (hN7 : N ≤ 7) (hs : s < 128) (hz : szo s N < N) (hFp : ∀ k, k < 8 → F 8 k = nI (fac k)) : ob_Met K1 yX1_ordersAt cX1_ordersAt 3 (some .int) 1 23 [.int (nI s)] (nI N, c, F) (fun r S' => S' = (nI N, c, F) ∧ r = nI (ord N s)) := by
  refine ob_intro C1 rfl rfl (Nat.le_of_ble_eq_true rfl) ?_
  intro E X G ret
  have g := G.1
  refine gm_aload_n g dX1_ordersAt_0 rfl ?_
  refine gm_iload_n g dX1_ordersAt_1 rfl ?_
  refine ob_call (as := [.int (nI s)]) (rest := []) G (x_sizeOf c F hN7 hs) wX1_sizeOf rfl npX1_sizeOf rfl rfl rfl (Nat.le_of_ble_eq_true rfl) dX1_ordersAt_2 (fun r S' hp => ?_)
  obtain ⟨rfl, rfl⟩ := hp
  refine gm_istore_n (lv' := [.ref (ob_h X), .int (nI s), .int (nI (szo s N))]) g dX1_ordersAt_5 rfl rfl ?_
  refine gm_aload_n g dX1_ordersAt_6 rfl ?_
  refine ob_geta G 8 rfl q39 dX1_ordersAt_7 ?_
  refine gm_iload_n g dX1_ordersAt_10 rfl ?_
  refine ob_iald (v := nI (fac (szo s N))) G 8 rfl dX1_ordersAt_11 (by omega) (hFp _ (by omega)) ?_
  refine gm_aload_n g dX1_ordersAt_12 rfl ?_
  refine ob_geta G 8 rfl q39 dX1_ordersAt_13 ?_
  refine gm_aload_n g dX1_ordersAt_16 rfl ?_
  refine ob_getn G q29 dX1_ordersAt_17 ?_
  refine gm_iconst (v := nI 1) g dX1_ordersAt_20 (by decide) ?_
  refine gN_isub g dX1_ordersAt_21 (by omega) ?_
  refine gm_iload_n g dX1_ordersAt_22 rfl ?_
  refine gN_isub g dX1_ordersAt_23 (by omega) ?_
  refine ob_iald (v := nI (fac (N - 1 - szo s N))) G 8 rfl dX1_ordersAt_24 (by omega) (hFp _ (by omega)) ?_
  refine gN_imul g dX1_ordersAt_25 ?_
  exact ret _ _ _ _ dX1_ordersAt_26 rfl ⟨rfl, rfl⟩
set_option maxHeartbeats 4000000 in
theorem x_ranks {N C : Nat} {lo hi : Nat → Nat} {gv : Nat → Int32} {F : Nat → Nat → Int32} (hN : ok_net N C lo hi) (hF : xF F N C lo hi gv) (w rr : Int32) : ob_Met K1 yX1_ranks cX1_ranks 11 (some .int) 2 49 [.int w, .int rr] (nI N, nI C, F) (fun r S' => ∃ F' : Nat → Nat → Int32, S' = (nI N, nI C, F') ∧ xF F' N C lo hi gv ∧ r = if bw (nI N) w ≠ 0 ∨ rr < nI 1 ∨ ¬ rr ≤ nI N then -1 else nI (sumf (rkc N (zrun lo hi nsk C) w.toNatClampNeg rr.toNatClampNeg) (N * 2 ^ N))) := by
  refine ob_intro C1 rfl rfl (Nat.le_of_ble_eq_true rfl) ?_
  intro E X G ret
  have g := G.1
  obtain ⟨hN2, hN7, hC24, hnet⟩ := id hN
  obtain ⟨⟨hFc, hFg⟩, hFp⟩ := id hF
  have hp := pw_128 hN7
  have hq := pw_896 hN7
  refine gm_aload_n g dX1_ranks_0 rfl ?_
  refine gm_iload_n g dX1_ranks_1 rfl ?_
  refine ob_call (as := [.int w]) (rest := []) G (x_badWire (nI N) (nI C) F w) wX1_badWire rfl npX1_badWire rfl rfl rfl (Nat.le_of_ble_eq_true rfl) dX1_ranks_2 (fun r S' hp => ?_)
  obtain ⟨rfl, rfl⟩ := hp
  refine gN_if_ne g 21 dX1_ranks_5 (by decide) (bw_lt _ _) (fun c1 => ?_) (fun c1 => ?_)
  · refine gm_iconst (v := -1) g dX1_ranks_21 (by decide) ?_
    exact ret _ _ _ _ dX1_ranks_22 rfl ⟨F, rfl, hF, by rw [if_pos (Or.inl c1)]⟩
  · refine gm_iload_n g dX1_ranks_8 rfl ?_
    refine gm_iconst (v := nI 1) g dX1_ranks_9 (by decide) ?_
    refine gm_icmp_lt g 21 dX1_ranks_10 (by decide) (fun c2 => ?_) (fun c2 => ?_)
    · refine gm_iconst (v := -1) g dX1_ranks_21 (by decide) ?_
      exact ret _ _ _ _ dX1_ranks_22 rfl ⟨F, rfl, hF, by rw [if_pos (Or.inr (Or.inl c2))]⟩
    · refine gm_iload_n g dX1_ranks_13 rfl ?_
      refine gm_aload_n g dX1_ranks_14 rfl ?_
      refine ob_getn G q29 dX1_ranks_15 ?_
      refine gm_icmp_le g 23 dX1_ranks_18 (by decide) (fun c3 => ?_) (fun c3 => ?_)
      · have hno : ¬ (bw (nI N) w ≠ 0 ∨ rr < nI 1 ∨ ¬ rr ≤ nI N) := fun h => h.elim (fun h => h c1) (fun h => h.elim c2 (fun h => h c3))
        obtain ⟨a, ha, ew⟩ := bw_in (by omega) c1
        obtain ⟨b, hb1, hb2, er⟩ := rk_in hN7 c2 c3
        subst ew; subst er
        refine gm_aload_n g dX1_ranks_23 rfl ?_
        refine gm_aload_n g dX1_ranks_24 rfl ?_
        refine ob_getc G q30 dX1_ranks_25 ?_
        refine gm_iconst (v := -1) g dX1_ranks_28 (by decide) ?_
        refine ob_callv (as := [.int (nI C), .int (-1)]) (rest := []) G (x_findSets hN hF (mm := C) (-1) nsk (Nat.le_refl C) (nsk_ok hC24)) wX1_findSets rfl npX1_findSets rfl rfl rfl (Nat.le_of_ble_eq_true rfl) dX1_ranks_29 (fun S' hp => ?_)
        obtain ⟨F1, rfl, hfr, hbc⟩ := hp
        have hF2 : xF F1 N C lo hi gv := xF_fr (hfr 0 (by decide)) (hfr 1 (by decide)) (hfr 2 (by decide)) (hfr 8 (by decide)) hF
        have hzl : ∀ s, s < 2 ^ N → zrun lo hi nsk C s < 2 ^ N := fun s hs => zrun_lt nsk hnet hs C (Nat.le_refl C)
        generalize zrun lo hi nsk C = z at hbc hzl ret
        refine gm_iconst (v := nI 0) g dX1_ranks_32 (by decide) ?_
        refine gm_istore_n (lv' := [.ref (ob_h X), .int (nI a), .int (nI b), .int (nI 0)]) g dX1_ranks_33 rfl rfl ?_
        refine gm_iconst (v := nI 0) g dX1_ranks_34 (by decide) ?_
        refine gm_istore (lv' := [.ref (ob_h X), .int (nI a), .int (nI b), .int (nI 0), .int (nI 0)]) g dX1_ranks_35 rfl rfl ?_
        refine lq0 (N * 2 ^ N) (fun k => gm E 11 (ob_I K1 X (nI N, nI C, F1)) [.ref (ob_h X), .int (nI a), .int (nI b), .int (nI (sumf (rkc N z a b) k)), .int (nI k)] 37 []) ?_ 0 (Nat.zero_le _)
        intro k hk ih
        refine gm_iload g dX1_ranks_37 rfl ?_
        refine gm_aload_n g dX1_ranks_39 rfl ?_
        refine ob_getn G q29 dX1_ranks_40 ?_
        refine gm_aload_n g dX1_ranks_43 rfl ?_
        refine ob_getn G q29 dX1_ranks_44 ?_
        refine gN_ishl g dX1_ranks_47 (by omega) (by omega) ?_
        refine gN_icmp_ge g 167 dX1_ranks_48 (by decide) (by omega) (by omega) (fun c4 => ?_) (fun c4 => ?_)
        · have e : k = N * 2 ^ N := by omega
          rw [e]
          refine gm_iload_n g dX1_ranks_167 rfl ?_
          exact ret _ _ _ _ dX1_ranks_168 rfl ⟨F1, rfl, hF2, by rw [if_neg hno, nI_clamp (by omega), nI_clamp (by omega)]⟩
        · have hs := kd_lt c4
          have hx : k % N < N := Nat.mod_lt _ (by omega)
          have ho := or_lt hs hx
          refine gm_iload g dX1_ranks_51 rfl ?_
          refine gm_aload_n g dX1_ranks_53 rfl ?_
          refine ob_getn G q29 dX1_ranks_54 ?_
          refine gN_idiv g dX1_ranks_57 (by omega) (by omega) (by omega) ?_
          refine gm_istore (lv' := [.ref (ob_h X), .int (nI a), .int (nI b), .int (nI (sumf (rkc N z a b) k)), .int (nI k), .int (nI (k / N))]) g dX1_ranks_58 rfl rfl ?_
          refine gm_iload g dX1_ranks_60 rfl ?_
          refine gm_aload_n g dX1_ranks_62 rfl ?_
          refine ob_getn G q29 dX1_ranks_63 ?_
          refine gN_irem g dX1_ranks_66 (by omega) (by omega) (by omega) ?_
          refine gm_istore (lv' := [.ref (ob_h X), .int (nI a), .int (nI b), .int (nI (sumf (rkc N z a b) k)), .int (nI k), .int (nI (k / N)), .int (nI (k % N))]) g dX1_ranks_67 rfl rfl ?_
          refine gm_aload_n g dX1_ranks_69 rfl ?_
          refine gm_iload g dX1_ranks_70 rfl ?_
          generalize hse : k / N = s at hs ho
          generalize hxe : k % N = x at hx ho
          refine ob_call (as := [.int (nI s)]) (rest := []) G (x_sizeOf (nI C) F1 hN7 (show s < 128 by omega)) wX1_sizeOf rfl npX1_sizeOf rfl rfl rfl (Nat.le_of_ble_eq_true rfl) dX1_ranks_72 (fun r S' hp => ?_)
          obtain ⟨rfl, rfl⟩ := hp
          have hsz := szo_le s N
          have hz1 := hzl s hs
          have hz2 := hzl _ ho
          have tl : ∀ hh : Nat, hh = (if s / 2 ^ x % 2 = 0 ∧ szo s N = N - b then 1 else 0) → gm E 11 (ob_I K1 X (nI N, nI C, F1)) [.ref (ob_h X), .int (nI a), .int (nI b), .int (nI (sumf (rkc N z a b) k)), .int (nI k), .int (nI s), .int (nI x), .int (nI (szo s N))] 103 [.int (nI hh)] := by
            intro hh hhe
            have hhl : hh < 2147483648 := by rw [hhe]; split <;> decide
            refine gm_istore (lv' := [.ref (ob_h X), .int (nI a), .int (nI b), .int (nI (sumf (rkc N z a b) k)), .int (nI k), .int (nI s), .int (nI x), .int (nI (szo s N)), .int (nI hh)]) g dX1_ranks_103 rfl rfl ?_
            refine gm_aload_n g dX1_ranks_105 rfl ?_
            refine ob_geta G 4 rfl q35 dX1_ranks_106 ?_
            refine gm_iload g dX1_ranks_109 rfl ?_
            refine ob_sald (v := nI (z s)) G 4 rfl dX1_ranks_111 (by omega) (hbc s hs) ?_
            refine gm_iload_n g dX1_ranks_112 rfl ?_
            refine gN_ishr g dX1_ranks_113 (by omega) (by omega) ?_
            refine gm_iconst (v := nI 1) g dX1_ranks_114 (by decide) ?_
            refine gN_iand1 g dX1_ranks_115 (dv31 (by omega) _) ?_
            refine gm_istore (lv' := [.ref (ob_h X), .int (nI a), .int (nI b), .int (nI (sumf (rkc N z a b) k)), .int (nI k), .int (nI s), .int (nI x), .int (nI (szo s N)), .int (nI hh), .int (nI (((z s) / 2 ^ a) % 2))]) g dX1_ranks_116 rfl rfl ?_
            refine gm_aload_n g dX1_ranks_118 rfl ?_
            refine ob_geta G 4 rfl q35 dX1_ranks_119 ?_
            refine gm_iload g dX1_ranks_122 rfl ?_
            refine gm_iconst (v := nI 1) g dX1_ranks_124 (by decide) ?_
            refine gm_iload g dX1_ranks_125 rfl ?_
            refine gN_ishl g dX1_ranks_127 (by omega) (sh1 (by omega)) ?_
            refine gm_eqi (y := nI (2 ^ x)) (by rw [Nat.one_mul]) ?_
            refine gN_ior g dX1_ranks_128 ?_
            refine ob_sald (v := nI (z (s ||| 2 ^ x))) G 4 rfl dX1_ranks_129 (by omega) (hbc _ ho) ?_
            refine gm_iload_n g dX1_ranks_130 rfl ?_
            refine gN_ishr g dX1_ranks_131 (by omega) (by omega) ?_
            refine gm_iconst (v := nI 1) g dX1_ranks_132 (by decide) ?_
            refine gN_iand1 g dX1_ranks_133 (dv31 (by omega) _) ?_
            refine gm_istore (lv' := [.ref (ob_h X), .int (nI a), .int (nI b), .int (nI (sumf (rkc N z a b) k)), .int (nI k), .int (nI s), .int (nI x), .int (nI (szo s N)), .int (nI hh), .int (nI (((z s) / 2 ^ a) % 2)), .int (nI (((z (s ||| 2 ^ x)) / 2 ^ a) % 2))]) g dX1_ranks_134 rfl rfl ?_
            have t2 : ∀ v : Nat, v = sumf (rkc N z a b) (k + 1) → gm E 11 (ob_I K1 X (nI N, nI C, F1)) [.ref (ob_h X), .int (nI a), .int (nI b), .int (nI (sumf (rkc N z a b) k)), .int (nI k), .int (nI s), .int (nI x), .int (nI (szo s N)), .int (nI hh), .int (nI (((z s) / 2 ^ a) % 2)), .int (nI (((z (s ||| 2 ^ x)) / 2 ^ a) % 2))] 160 [.int (nI v)] := by
              intro v hv
              subst hv
              refine gm_istore_n (lv' := [.ref (ob_h X), .int (nI a), .int (nI b), .int (nI (sumf (rkc N z a b) (k + 1))), .int (nI k), .int (nI s), .int (nI x), .int (nI (szo s N)), .int (nI hh), .int (nI (((z s) / 2 ^ a) % 2)), .int (nI (((z (s ||| 2 ^ x)) / 2 ^ a) % 2))]) g dX1_ranks_160 rfl rfl ?_
              refine gN_iinc (lv' := [.ref (ob_h X), .int (nI a), .int (nI b), .int (nI (sumf (rkc N z a b) (k + 1))), .int (nI (k + 1)), .int (nI s), .int (nI x), .int (nI (szo s N)), .int (nI hh), .int (nI (((z s) / 2 ^ a) % 2)), .int (nI (((z (s ||| 2 ^ x)) / 2 ^ a) % 2))]) g dX1_ranks_161 rfl rfl rfl ?_
              refine gm_goto g 37 dX1_ranks_164 (by decide) ?_
              exact gm_take 5 rfl (ih c4)
            have hsum : sumf (rkc N z a b) (k + 1) = sumf (rkc N z a b) k + (if (s / 2 ^ x % 2 = 0 ∧ szo s N = N - b) ∧ z s / 2 ^ a % 2 ≠ z (s ||| 2 ^ x) / 2 ^ a % 2 then ord N s else 0) := by rw [← hse, ← hxe]; rfl
            refine gm_iload g dX1_ranks_136 rfl ?_
            refine gN_if_eq g 159 dX1_ranks_138 (by decide) (by omega) (fun c5 => ?_) (fun c5 => ?_)
            · refine gm_iload_n g dX1_ranks_159 rfl ?_
              exact t2 _ (by rw [hsum, if_neg (fun h => by rw [if_pos h.1] at hhe; omega), Nat.add_zero])
            · have hcnd : s / 2 ^ x % 2 = 0 ∧ szo s N = N - b := by
                by_cases q : s / 2 ^ x % 2 = 0 ∧ szo s N = N - b
                · exact q
                · rw [if_neg q] at hhe; omega
              refine gm_iload g dX1_ranks_141 rfl ?_
              refine gm_iload g dX1_ranks_143 rfl ?_
              refine gN_icmp_eq g 159 dX1_ranks_145 (by decide) (by omega) (by omega) (fun c6 => ?_) (fun c6 => ?_)
              · refine gm_iload_n g dX1_ranks_159 rfl ?_
                exact t2 _ (by rw [hsum, if_neg (fun h => h.2 c6), Nat.add_zero])
              · refine gm_iload_n g dX1_ranks_148 rfl ?_
                refine gm_aload_n g dX1_ranks_149 rfl ?_
                refine gm_iload g dX1_ranks_150 rfl ?_
                refine ob_call (as := [.int (nI s)]) (rest := [.int (nI (sumf (rkc N z a b) k))]) G (x_ordersAt (nI C) F1 hN7 (show s < 128 by omega) (show szo s N < N by omega) hF2.2) wX1_ordersAt rfl npX1_ordersAt rfl rfl rfl (Nat.le_of_ble_eq_true rfl) dX1_ranks_152 (fun r S' hp => ?_)
                obtain ⟨rfl, rfl⟩ := hp
                refine gN_iadd g dX1_ranks_155 ?_
                refine gm_goto g 160 dX1_ranks_156 (by decide) ?_
                exact t2 _ (by rw [hsum, if_pos ⟨hcnd, c6⟩])
          refine gm_istore (lv' := [.ref (ob_h X), .int (nI a), .int (nI b), .int (nI (sumf (rkc N z a b) k)), .int (nI k), .int (nI s), .int (nI x), .int (nI (szo s N))]) g dX1_ranks_75 rfl rfl ?_
          refine gm_iload g dX1_ranks_77 rfl ?_
          refine gm_iload g dX1_ranks_79 rfl ?_
          refine gN_ishr g dX1_ranks_81 (by omega) (by omega) ?_
          refine gm_iconst (v := nI 1) g dX1_ranks_82 (by decide) ?_
          refine gN_iand1 g dX1_ranks_83 (dv31 (by omega) _) ?_
          refine gN_if_ne g 102 dX1_ranks_84 (by decide) (by omega) (fun c5 => ?_) (fun c5 => ?_)
          · refine gm_iconst (v := nI 0) g dX1_ranks_102 (by decide) ?_
            exact tl 0 (by rw [if_neg (fun h => c5 h.1)])
          · refine gm_iload g dX1_ranks_87 rfl ?_
            refine gm_aload_n g dX1_ranks_89 rfl ?_
            refine ob_getn G q29 dX1_ranks_90 ?_
            refine gm_iload_n g dX1_ranks_93 rfl ?_
            refine gN_isub g dX1_ranks_94 (by omega) ?_
            refine gN_icmp_ne g 102 dX1_ranks_95 (by decide) (by omega) (by omega) (fun c6 => ?_) (fun c6 => ?_)
            · refine gm_iconst (v := nI 0) g dX1_ranks_102 (by decide) ?_
              exact tl 0 (by rw [if_neg (fun h => c6 h.2)])
            · refine gm_iconst (v := nI 1) g dX1_ranks_98 (by decide) ?_
              refine gm_goto g 103 dX1_ranks_99 (by decide) ?_
              exact tl 1 (by rw [if_pos ⟨c5, c6⟩])
      · refine gm_iconst (v := -1) g dX1_ranks_21 (by decide) ?_
        exact ret _ _ _ _ dX1_ranks_22 rfl ⟨F, rfl, hF, by rw [if_pos (Or.inr (Or.inr c3))]⟩
set_option maxHeartbeats 4000000 in
theorem x_lessOn {N : Nat} (c : Int32) (F : Nat → Nat → Int32) (z : Nat → Nat) {a b : Nat} (hN2 : 2 ≤ N) (hN7 : N ≤ 7) (ha : a < N) (hb : b < N) (hbc : ∀ s, s < 2 ^ N → F 4 s = nI (z s)) (hzl : ∀ s, s < 2 ^ N → z s < 2 ^ N) (hFp : ∀ k, k < 8 → F 8 k = nI (fac k)) : ob_Met K1 yX1_lessOn cX1_lessOn 10 (some .int) 2 45 [.int (nI a), .int (nI b)] (nI N, c, F) (fun r S' => S' = (nI N, c, F) ∧ r = nI (sumf (lsc N z a b) (N * 2 ^ N))) := by
  refine ob_intro C1 rfl rfl (Nat.le_of_ble_eq_true rfl) ?_
  intro E X G ret
  have g := G.1
  have hp := pw_128 hN7
  have hq := pw_896 hN7
  refine gm_iconst (v := nI 0) g dX1_lessOn_0 (by decide) ?_
  refine gm_istore_n (lv' := [.ref (ob_h X), .int (nI a), .int (nI b), .int (nI 0)]) g dX1_lessOn_1 rfl rfl ?_
  refine gm_iconst (v := nI 0) g dX1_lessOn_2 (by decide) ?_
  refine gm_istore (lv' := [.ref (ob_h X), .int (nI a), .int (nI b), .int (nI 0), .int (nI 0)]) g dX1_lessOn_3 rfl rfl ?_
  refine lq0 (N * 2 ^ N) (fun k => gm E 10 (ob_I K1 X (nI N, c, F)) [.ref (ob_h X), .int (nI a), .int (nI b), .int (nI (sumf (lsc N z a b) k)), .int (nI k)] 5 []) ?_ 0 (Nat.zero_le _)
  intro k hk ih
  refine gm_iload g dX1_lessOn_5 rfl ?_
  refine gm_aload_n g dX1_lessOn_7 rfl ?_
  refine ob_getn G q29 dX1_lessOn_8 ?_
  refine gm_aload_n g dX1_lessOn_11 rfl ?_
  refine ob_getn G q29 dX1_lessOn_12 ?_
  refine gN_ishl g dX1_lessOn_15 (by omega) (by omega) ?_
  refine gN_icmp_ge g 129 dX1_lessOn_16 (by decide) (by omega) (by omega) (fun c4 => ?_) (fun c4 => ?_)
  · have e : k = N * 2 ^ N := by omega
    rw [e]
    refine gm_iload_n g dX1_lessOn_129 rfl ?_
    exact ret _ _ _ _ dX1_lessOn_130 rfl ⟨rfl, rfl⟩
  · have hs := kd_lt c4
    have hx : k % N < N := Nat.mod_lt _ (by omega)
    have ho := or_lt hs hx
    refine gm_iload g dX1_lessOn_19 rfl ?_
    refine gm_aload_n g dX1_lessOn_21 rfl ?_
    refine ob_getn G q29 dX1_lessOn_22 ?_
    refine gN_idiv g dX1_lessOn_25 (by omega) (by omega) (by omega) ?_
    refine gm_istore (lv' := [.ref (ob_h X), .int (nI a), .int (nI b), .int (nI (sumf (lsc N z a b) k)), .int (nI k), .int (nI (k / N))]) g dX1_lessOn_26 rfl rfl ?_
    refine gm_iload g dX1_lessOn_28 rfl ?_
    refine gm_aload_n g dX1_lessOn_30 rfl ?_
    refine ob_getn G q29 dX1_lessOn_31 ?_
    refine gN_irem g dX1_lessOn_34 (by omega) (by omega) (by omega) ?_
    refine gm_istore (lv' := [.ref (ob_h X), .int (nI a), .int (nI b), .int (nI (sumf (lsc N z a b) k)), .int (nI k), .int (nI (k / N)), .int (nI (k % N))]) g dX1_lessOn_35 rfl rfl ?_
    generalize hse : k / N = s at hs ho
    generalize hxe : k % N = x at hx ho
    have hz1 := hzl s hs
    have hz2 := hzl _ ho
    refine gm_aload_n g dX1_lessOn_37 rfl ?_
    refine ob_geta G 4 rfl q35 dX1_lessOn_38 ?_
    refine gm_iload g dX1_lessOn_41 rfl ?_
    refine ob_sald (v := nI (z s)) G 4 rfl dX1_lessOn_43 (by omega) (hbc s hs) ?_
    refine gm_istore (lv' := [.ref (ob_h X), .int (nI a), .int (nI b), .int (nI (sumf (lsc N z a b) k)), .int (nI k), .int (nI s), .int (nI x), .int (nI (z s))]) g dX1_lessOn_44 rfl rfl ?_
    refine gm_aload_n g dX1_lessOn_46 rfl ?_
    refine ob_geta G 4 rfl q35 dX1_lessOn_47 ?_
    refine gm_iload g dX1_lessOn_50 rfl ?_
    refine gm_iconst (v := nI 1) g dX1_lessOn_52 (by decide) ?_
    refine gm_iload g dX1_lessOn_53 rfl ?_
    refine gN_ishl g dX1_lessOn_55 (by omega) (sh1 (by omega)) ?_
    refine gm_eqi (y := nI (2 ^ x)) (by rw [Nat.one_mul]) ?_
    refine gN_ior g dX1_lessOn_56 ?_
    refine ob_sald (v := nI (z (s ||| 2 ^ x))) G 4 rfl dX1_lessOn_57 (by omega) (hbc _ ho) ?_
    refine gm_istore (lv' := [.ref (ob_h X), .int (nI a), .int (nI b), .int (nI (sumf (lsc N z a b) k)), .int (nI k), .int (nI s), .int (nI x), .int (nI (z s)), .int (nI (z (s ||| 2 ^ x)))]) g dX1_lessOn_58 rfl rfl ?_
    have tl : ∀ hh : Nat, hh = (if s / 2 ^ x % 2 = 0 ∧ z s / 2 ^ b % 2 = 0 ∧ z (s ||| 2 ^ x) / 2 ^ b % 2 = 1 ∧ z (s ||| 2 ^ x) / 2 ^ a % 2 = 0 then 1 else 0) → gm E 10 (ob_I K1 X (nI N, c, F)) [.ref (ob_h X), .int (nI a), .int (nI b), .int (nI (sumf (lsc N z a b) k)), .int (nI k), .int (nI s), .int (nI x), .int (nI (z s)), .int (nI (z (s ||| 2 ^ x)))] 103 [.int (nI hh)] := by
      intro hh hhe
      have hhl : hh < 2147483648 := by rw [hhe]; split <;> decide
      refine gm_istore (lv' := [.ref (ob_h X), .int (nI a), .int (nI b), .int (nI (sumf (lsc N z a b) k)), .int (nI k), .int (nI s), .int (nI x), .int (nI (z s)), .int (nI (z (s ||| 2 ^ x))), .int (nI hh)]) g dX1_lessOn_103 rfl rfl ?_
      have t2 : ∀ v : Nat, v = sumf (lsc N z a b) (k + 1) → gm E 10 (ob_I K1 X (nI N, c, F)) [.ref (ob_h X), .int (nI a), .int (nI b), .int (nI (sumf (lsc N z a b) k)), .int (nI k), .int (nI s), .int (nI x), .int (nI (z s)), .int (nI (z (s ||| 2 ^ x))), .int (nI hh)] 122 [.int (nI v)] := by
        intro v hv
        subst hv
        refine gm_istore_n (lv' := [.ref (ob_h X), .int (nI a), .int (nI b), .int (nI (sumf (lsc N z a b) (k + 1))), .int (nI k), .int (nI s), .int (nI x), .int (nI (z s)), .int (nI (z (s ||| 2 ^ x))), .int (nI hh)]) g dX1_lessOn_122 rfl rfl ?_
        refine gN_iinc (lv' := [.ref (ob_h X), .int (nI a), .int (nI b), .int (nI (sumf (lsc N z a b) (k + 1))), .int (nI (k + 1)), .int (nI s), .int (nI x), .int (nI (z s)), .int (nI (z (s ||| 2 ^ x))), .int (nI hh)]) g dX1_lessOn_123 rfl rfl rfl ?_
        refine gm_goto g 5 dX1_lessOn_126 (by decide) ?_
        exact gm_take 5 rfl (ih c4)
      have hsum : sumf (lsc N z a b) (k + 1) = sumf (lsc N z a b) k + (if s / 2 ^ x % 2 = 0 ∧ z s / 2 ^ b % 2 = 0 ∧ z (s ||| 2 ^ x) / 2 ^ b % 2 = 1 ∧ z (s ||| 2 ^ x) / 2 ^ a % 2 = 0 then ord N s else 0) := by rw [← hse, ← hxe]; rfl
      refine gm_iload g dX1_lessOn_105 rfl ?_
      refine gN_if_eq g 121 dX1_lessOn_107 (by decide) (by omega) (fun c5 => ?_) (fun c5 => ?_)
      · refine gm_iload_n g dX1_lessOn_121 rfl ?_
        exact t2 _ (by rw [hsum, if_neg (fun h => by rw [if_pos h] at hhe; omega), Nat.add_zero])
      · have hcnd : s / 2 ^ x % 2 = 0 ∧ z s / 2 ^ b % 2 = 0 ∧ z (s ||| 2 ^ x) / 2 ^ b % 2 = 1 ∧ z (s ||| 2 ^ x) / 2 ^ a % 2 = 0 := by
          by_cases q : s / 2 ^ x % 2 = 0 ∧ z s / 2 ^ b % 2 = 0 ∧ z (s ||| 2 ^ x) / 2 ^ b % 2 = 1 ∧ z (s ||| 2 ^ x) / 2 ^ a % 2 = 0
          · exact q
          · rw [if_neg q] at hhe; omega
        refine gm_iload_n g dX1_lessOn_110 rfl ?_
        refine gm_aload_n g dX1_lessOn_111 rfl ?_
        refine gm_iload g dX1_lessOn_112 rfl ?_
        refine ob_call (as := [.int (nI s)]) (rest := [.int (nI (sumf (lsc N z a b) k))]) G (x_ordersAt c F hN7 (show s < 128 by omega) (szo_lt hx hcnd.1) hFp) wX1_ordersAt rfl npX1_ordersAt rfl rfl rfl (Nat.le_of_ble_eq_true rfl) dX1_lessOn_114 (fun r S' hp => ?_)
        obtain ⟨rfl, rfl⟩ := hp
        refine gN_iadd g dX1_lessOn_117 ?_
        refine gm_goto g 122 dX1_lessOn_118 (by decide) ?_
        exact t2 _ (by rw [hsum, if_pos hcnd])
    refine gm_iload g dX1_lessOn_60 rfl ?_
    refine gm_iload g dX1_lessOn_62 rfl ?_
    refine gN_ishr g dX1_lessOn_64 (by omega) (by omega) ?_
    refine gm_iconst (v := nI 1) g dX1_lessOn_65 (by decide) ?_
    refine gN_iand1 g dX1_lessOn_66 (dv31 (by omega) _) ?_
    refine gN_if_ne g 102 dX1_lessOn_67 (by decide) (by omega) (fun c5 => ?_) (fun c5 => ?_)
    · refine gm_iconst (v := nI 0) g dX1_lessOn_102 (by decide) ?_
      exact tl 0 (by rw [if_neg (fun h => c5 h.1)])
    · refine gm_iload g dX1_lessOn_70 rfl ?_
      refine gm_iload_n g dX1_lessOn_72 rfl ?_
      refine gN_ishr g dX1_lessOn_73 (by omega) (by omega) ?_
      refine gm_iconst (v := nI 1) g dX1_lessOn_74 (by decide) ?_
      refine gN_iand1 g dX1_lessOn_75 (dv31 (by omega) _) ?_
      refine gN_if_ne g 102 dX1_lessOn_76 (by decide) (by omega) (fun c6 => ?_) (fun c6 => ?_)
      · refine gm_iconst (v := nI 0) g dX1_lessOn_102 (by decide) ?_
        exact tl 0 (by rw [if_neg (fun h => c6 h.2.1)])
      · refine gm_iload g dX1_lessOn_79 rfl ?_
        refine gm_iload_n g dX1_lessOn_81 rfl ?_
        refine gN_ishr g dX1_lessOn_82 (by omega) (by omega) ?_
        refine gm_iconst (v := nI 1) g dX1_lessOn_83 (by decide) ?_
        refine gN_iand1 g dX1_lessOn_84 (dv31 (by omega) _) ?_
        refine gm_iconst (v := nI 1) g dX1_lessOn_85 (by decide) ?_
        refine gN_icmp_ne g 102 dX1_lessOn_86 (by decide) (by omega) (by omega) (fun c7 => ?_) (fun c7 => ?_)
        · refine gm_iconst (v := nI 0) g dX1_lessOn_102 (by decide) ?_
          exact tl 0 (by rw [if_neg (fun h => c7 h.2.2.1)])
        · refine gm_iload g dX1_lessOn_89 rfl ?_
          refine gm_iload_n g dX1_lessOn_91 rfl ?_
          refine gN_ishr g dX1_lessOn_92 (by omega) (by omega) ?_
          refine gm_iconst (v := nI 1) g dX1_lessOn_93 (by decide) ?_
          refine gN_iand1 g dX1_lessOn_94 (dv31 (by omega) _) ?_
          refine gN_if_ne g 102 dX1_lessOn_95 (by decide) (by omega) (fun c8 => ?_) (fun c8 => ?_)
          · refine gm_iconst (v := nI 0) g dX1_lessOn_102 (by decide) ?_
            exact tl 0 (by rw [if_neg (fun h => c8 h.2.2.2)])
          · refine gm_iconst (v := nI 1) g dX1_lessOn_98 (by decide) ?_
            refine gm_goto g 103 dX1_lessOn_99 (by decide) ?_
            exact tl 1 (by rw [if_pos ⟨c5, c6, c7, c8⟩])
set_option maxHeartbeats 4000000 in
theorem x_works {N C : Nat} {lo hi : Nat → Nat} {gv : Nat → Int32} {F : Nat → Nat → Int32} (hN : ok_net N C lo hi) (hF : xF F N C lo hi gv) (k : Int32) : ob_Met K1 yX1_works cX1_works 2 (some .int) 3 74 [.int k] (nI N, nI C, F) (fun r S' => ∃ F' : Nat → Nat → Int32, S' = (nI N, nI C, F') ∧ xF F' N C lo hi gv ∧ r = if bw (nI C) k ≠ 0 then -4 else nI (sumf (lsc N (zrun lo hi nsk k.toNatClampNeg) (hi k.toNatClampNeg) (lo k.toNatClampNeg)) (N * 2 ^ N))) := by
  refine ob_intro C1 rfl rfl (Nat.le_of_ble_eq_true rfl) ?_
  intro E X G ret
  have g := G.1
  obtain ⟨hN2, hN7, hC24, hnet⟩ := id hN
  obtain ⟨⟨hFc, hFg⟩, hFp⟩ := id hF
  refine gm_iload_n g dX1_works_0 rfl ?_
  refine gm_if_lt g 12 dX1_works_1 (by decide) (fun c1 => ?_) (fun c1 => ?_)
  · refine gm_bipush (v := -4) g dX1_works_12 (by decide) ?_
    exact ret _ _ _ _ dX1_works_14 rfl ⟨F, rfl, hF, by rw [if_pos (by rw [bw_1 (Or.inl c1)]; decide)]⟩
  · refine gm_iload_n g dX1_works_4 rfl ?_
    refine gm_aload_n g dX1_works_5 rfl ?_
    refine ob_getc G q30 dX1_works_6 ?_
    refine gm_icmp_lt g 15 dX1_works_9 (by decide) (fun c2 => ?_) (fun c2 => ?_)
    · have hb0 : bw (nI C) k = 0 := bw_0 c1 (i_nle.mpr c2)
      obtain ⟨a, ha, ek⟩ := bw_in (by omega) hb0
      subst ek
      have hL := hnet a ha
      refine gm_aload_n g dX1_works_15 rfl ?_
      refine gm_iload_n g dX1_works_16 rfl ?_
      refine gm_iconst (v := -1) g dX1_works_17 (by decide) ?_
      refine ob_callv (as := [.int (nI a), .int (-1)]) (rest := []) G (x_findSets hN hF (mm := a) (-1) nsk (show a ≤ C by omega) (nsk_ok (show a ≤ 24 by omega))) wX1_findSets rfl npX1_findSets rfl rfl rfl (Nat.le_of_ble_eq_true rfl) dX1_works_18 (fun S' hp => ?_)
      obtain ⟨F1, rfl, hfr, hbc⟩ := hp
      have hF2 : xF F1 N C lo hi gv := xF_fr (hfr 0 (by decide)) (hfr 1 (by decide)) (hfr 2 (by decide)) (hfr 8 (by decide)) hF
      refine gm_aload_n g dX1_works_21 rfl ?_
      refine gm_aload_n g dX1_works_22 rfl ?_
      refine ob_geta G 1 rfl q32 dX1_works_23 ?_
      refine gm_iload_n g dX1_works_26 rfl ?_
      refine ob_bald (v := nI (hi a)) G 1 rfl dX1_works_27 (by omega) ((hF2.1.1 a ha).2) ?_
      refine gm_aload_n g dX1_works_28 rfl ?_
      refine ob_geta G 0 rfl q31 dX1_works_29 ?_
      refine gm_iload_n g dX1_works_32 rfl ?_
      refine ob_bald (v := nI (lo a)) G 0 rfl dX1_works_33 (by omega) ((hF2.1.1 a ha).1) ?_
      refine ob_call (as := [.int (nI (hi a)), .int (nI (lo a))]) (rest := []) G (x_lessOn (nI C) F1 (zrun lo hi nsk a) hN2 hN7 hL.2.1 hL.1 hbc (fun s hs => zrun_lt nsk hnet hs a (by omega)) hF2.2) wX1_lessOn rfl npX1_lessOn rfl rfl rfl (Nat.le_of_ble_eq_true rfl) dX1_works_34 (fun r S' hp => ?_)
      obtain ⟨rfl, rfl⟩ := hp
      exact ret _ _ _ _ dX1_works_37 rfl ⟨F1, rfl, hF2, by rw [if_neg (by rw [hb0]; decide), nI_clamp (by omega)]⟩
    · refine gm_bipush (v := -4) g dX1_works_12 (by decide) ?_
      exact ret _ _ _ _ dX1_works_14 rfl ⟨F, rfl, hF, by rw [if_pos (by rw [bw_1 (Or.inr (i_nlt.mp c2))]; decide)]⟩
set_option maxHeartbeats 4000000 in
theorem x_below {N C : Nat} {lo hi : Nat → Nat} {gv : Nat → Int32} {F : Nat → Nat → Int32} (hN : ok_net N C lo hi) (hF : xF F N C lo hi gv) (v w : Int32) : ob_Met K1 yX1_below cX1_below 3 (some .int) 3 74 [.int v, .int w] (nI N, nI C, F) (fun r S' => ∃ F' : Nat → Nat → Int32, S' = (nI N, nI C, F') ∧ xF F' N C lo hi gv ∧ r = if bw (nI N) v ≠ 0 ∨ bw (nI N) w ≠ 0 then -1 else nI (sumf (lsc N (zrun lo hi nsk C) v.toNatClampNeg w.toNatClampNeg) (N * 2 ^ N))) := by
  refine ob_intro C1 rfl rfl (Nat.le_of_ble_eq_true rfl) ?_
  intro E X G ret
  have g := G.1
  obtain ⟨hN2, hN7, hC24, hnet⟩ := id hN
  obtain ⟨⟨hFc, hFg⟩, hFp⟩ := id hF
  refine gm_aload_n g dX1_below_0 rfl ?_
  refine gm_iload_n g dX1_below_1 rfl ?_
  refine ob_call (as := [.int v]) (rest := []) G (x_badWire (nI N) (nI C) F v) wX1_badWire rfl npX1_badWire rfl rfl rfl (Nat.le_of_ble_eq_true rfl) dX1_below_2 (fun r S' hp => ?_)
  obtain ⟨rfl, rfl⟩ := hp
  refine gN_if_ne g 16 dX1_below_5 (by decide) (bw_lt _ _) (fun c1 => ?_) (fun c1 => ?_)
  · refine gm_iconst (v := -1) g dX1_below_16 (by decide) ?_
    exact ret _ _ _ _ dX1_below_17 rfl ⟨F, rfl, hF, by rw [if_pos (Or.inl c1)]⟩
  · refine gm_aload_n g dX1_below_8 rfl ?_
    refine gm_iload_n g dX1_below_9 rfl ?_
    refine ob_call (as := [.int w]) (rest := []) G (x_badWire (nI N) (nI C) F w) wX1_badWire rfl npX1_badWire rfl rfl rfl (Nat.le_of_ble_eq_true rfl) dX1_below_10 (fun r S' hp => ?_)
    obtain ⟨rfl, rfl⟩ := hp
    refine gN_if_eq g 18 dX1_below_13 (by decide) (bw_lt _ _) (fun c2 => ?_) (fun c2 => ?_)
    · obtain ⟨a, ha, ev⟩ := bw_in (by omega) c1
      obtain ⟨b, hb, ew⟩ := bw_in (by omega) c2
      subst ev; subst ew
      refine gm_aload_n g dX1_below_18 rfl ?_
      refine gm_aload_n g dX1_below_19 rfl ?_
      refine ob_getc G q30 dX1_below_20 ?_
      refine gm_iconst (v := -1) g dX1_below_23 (by decide) ?_
      refine ob_callv (as := [.int (nI C), .int (-1)]) (rest := []) G (x_findSets hN hF (mm := C) (-1) nsk (Nat.le_refl C) (nsk_ok hC24)) wX1_findSets rfl npX1_findSets rfl rfl rfl (Nat.le_of_ble_eq_true rfl) dX1_below_24 (fun S' hp => ?_)
      obtain ⟨F1, rfl, hfr, hbc⟩ := hp
      have hF2 : xF F1 N C lo hi gv := xF_fr (hfr 0 (by decide)) (hfr 1 (by decide)) (hfr 2 (by decide)) (hfr 8 (by decide)) hF
      refine gm_aload_n g dX1_below_27 rfl ?_
      refine gm_iload_n g dX1_below_28 rfl ?_
      refine gm_iload_n g dX1_below_29 rfl ?_
      refine ob_call (as := [.int (nI a), .int (nI b)]) (rest := []) G (x_lessOn (nI C) F1 (zrun lo hi nsk C) hN2 hN7 ha hb hbc (fun s hs => zrun_lt nsk hnet hs C (Nat.le_refl C)) hF2.2) wX1_lessOn rfl npX1_lessOn rfl rfl rfl (Nat.le_of_ble_eq_true rfl) dX1_below_30 (fun r S' hp => ?_)
      obtain ⟨rfl, rfl⟩ := hp
      exact ret _ _ _ _ dX1_below_33 rfl ⟨F1, rfl, hF2, by rw [if_neg (fun h => h.elim (fun h => h c1) (fun h => h c2)), nI_clamp (by omega), nI_clamp (by omega)]⟩
    · refine gm_iconst (v := -1) g dX1_below_16 (by decide) ?_
      exact ret _ _ _ _ dX1_below_17 rfl ⟨F, rfl, hF, by rw [if_pos (Or.inr c2)]⟩
set_option maxHeartbeats 4000000 in
theorem x_sameWithout {N C : Nat} {lo hi : Nat → Nat} {gv : Nat → Int32} {F : Nat → Nat → Int32} (hN : ok_net N C lo hi) (hF : xF F N C lo hi gv) {a : Nat} (ha : a < C) (z0 : Nat → Nat) (hw : ∀ s, s < 2 ^ N → F 5 s = nI (z0 s)) (hz0 : ∀ s, s < 2 ^ N → z0 s < 2 ^ N) : ob_Met K1 yX1_sameWithout cX1_sameWithout 4 (some .boolean) 2 49 [.int (nI a)] (nI N, nI C, F) (fun r S' => ∃ F' : Nat → Nat → Int32, S' = (nI N, nI C, F') ∧ (∀ j, j ≠ 4 → F' j = F j) ∧ r = nI (allq (fun s => zrun lo hi (skp a) C s == z0 s) (2 ^ N)).toNat) := by
  refine ob_intro C1 rfl rfl (Nat.le_of_ble_eq_true rfl) ?_
  intro E X G ret
  have g := G.1
  obtain ⟨hN2, hN7, hC24, hnet⟩ := id hN
  obtain ⟨⟨hFc, hFg⟩, hFp⟩ := id hF
  have hp := pw_128 hN7
  refine gm_aload_n g dX1_sameWithout_0 rfl ?_
  refine gm_aload_n g dX1_sameWithout_1 rfl ?_
  refine ob_getc G q30 dX1_sameWithout_2 ?_
  refine gm_iload_n g dX1_sameWithout_5 rfl ?_
  refine ob_callv (as := [.int (nI C), .int (nI a)]) (rest := []) G (x_findSets hN hF (mm := C) (nI a) (skp a) (Nat.le_refl C) (skp_ok hC24 ha)) wX1_findSets rfl npX1_findSets rfl rfl rfl (Nat.le_of_ble_eq_true rfl) dX1_sameWithout_6 (fun S' hp => ?_)
  obtain ⟨F1, rfl, hfr, hbc⟩ := hp
  have hzl : ∀ s, s < 2 ^ N → zrun lo hi (skp a) C s < 2 ^ N := fun s hs => zrun_lt (skp a) hnet hs C (Nat.le_refl C)
  generalize zrun lo hi (skp a) C = z at hbc hzl ret
  generalize hf : (fun s => z s == z0 s) = f at ret
  have hfs : ∀ s, f s = (z s == z0 s) := fun s => by rw [← hf]
  refine gm_iconst (v := nI 1) g dX1_sameWithout_9 (by decide) ?_
  refine gm_istore_n (lv' := [.ref (ob_h X), .int (nI a), .int (nI 1)]) g dX1_sameWithout_10 rfl rfl ?_
  refine gm_iconst (v := nI 0) g dX1_sameWithout_11 (by decide) ?_
  refine gm_istore_n (lv' := [.ref (ob_h X), .int (nI a), .int (nI 1), .int (nI 0)]) g dX1_sameWithout_12 rfl rfl ?_
  refine lq0 (2 ^ N) (fun s => gm E 4 (ob_I K1 X (nI N, nI C, F1)) [.ref (ob_h X), .int (nI a), .int (nI ((allq f s).toNat)), .int (nI s)] 13 []) ?_ 0 (Nat.zero_le _)
  intro s hs ih
  refine gm_iload_n g dX1_sameWithout_13 rfl ?_
  refine gm_iconst (v := nI 1) g dX1_sameWithout_14 (by decide) ?_
  refine gm_aload_n g dX1_sameWithout_15 rfl ?_
  refine ob_getn G q29 dX1_sameWithout_16 ?_
  refine gN_ishl g dX1_sameWithout_19 (by omega) (sh1 (by omega)) ?_
  refine gm_eqi (y := nI (2 ^ N)) (by rw [Nat.one_mul]) ?_
  refine gN_icmp_ge g 54 dX1_sameWithout_20 (by decide) (by omega) (by omega) (fun c1 => ?_) (fun c1 => ?_)
  · have e : s = 2 ^ N := by omega
    rw [e]
    refine gm_iload_n g dX1_sameWithout_54 rfl ?_
    exact ret _ _ _ _ dX1_sameWithout_55 (by cases allq f (2 ^ N) <;> rfl) ⟨F1, rfl, hfr, rfl⟩
  · have h1 := hzl s c1
    have h2 := hz0 s c1
    have tl : ∀ v : Nat, v = (allq f s && f s).toNat → gm E 4 (ob_I K1 X (nI N, nI C, F1)) [.ref (ob_h X), .int (nI a), .int (nI ((allq f s).toNat)), .int (nI s)] 47 [.int (nI v)] := by
      intro v hv
      subst hv
      refine gm_istore_n (lv' := [.ref (ob_h X), .int (nI a), .int (nI ((allq f s && f s).toNat)), .int (nI s)]) g dX1_sameWithout_47 rfl rfl ?_
      refine gN_iinc (lv' := [.ref (ob_h X), .int (nI a), .int (nI ((allq f s && f s).toNat)), .int (nI (s + 1))]) g dX1_sameWithout_48 rfl rfl rfl ?_
      refine gm_goto g 13 dX1_sameWithout_51 (by decide) ?_
      exact ih c1
    refine gm_iload_n g dX1_sameWithout_23 rfl ?_
    refine gN_if_eq g 46 dX1_sameWithout_24 (by decide) (bt_lt _) (fun c2 => ?_) (fun c2 => ?_)
    · refine gm_iconst (v := nI 0) g dX1_sameWithout_46 (by decide) ?_
      exact tl 0 (by rw [show allq f s = false from by revert c2; cases allq f s <;> simp]; rfl)
    · have e1 : allq f s = true := by revert c2; cases allq f s <;> simp
      refine gm_aload_n g dX1_sameWithout_27 rfl ?_
      refine ob_geta G 4 rfl q35 dX1_sameWithout_28 ?_
      refine gm_iload_n g dX1_sameWithout_31 rfl ?_
      refine ob_sald (v := nI (z s)) G 4 rfl dX1_sameWithout_32 (by omega) (hbc s c1) ?_
      refine gm_aload_n g dX1_sameWithout_33 rfl ?_
      refine ob_geta G 5 rfl q36 dX1_sameWithout_34 ?_
      refine gm_iload_n g dX1_sameWithout_37 rfl ?_
      refine ob_sald (v := nI (z0 s)) G 5 rfl dX1_sameWithout_38 (by omega) (by rw [hfr 5 (by decide)]; exact hw s c1) ?_
      refine gN_icmp_ne g 46 dX1_sameWithout_39 (by decide) (by omega) (by omega) (fun c3 => ?_) (fun c3 => ?_)
      · refine gm_iconst (v := nI 0) g dX1_sameWithout_46 (by decide) ?_
        exact tl 0 (by rw [hfs, show (z s == z0 s) = false from beq_false_of_ne c3, e1]; rfl)
      · refine gm_iconst (v := nI 1) g dX1_sameWithout_42 (by decide) ?_
        refine gm_goto g 47 dX1_sameWithout_43 (by decide) ?_
        exact tl 1 (by rw [hfs, show (z s == z0 s) = true from beq_iff_eq.mpr c3, e1]; rfl)
set_option maxHeartbeats 4000000 in
theorem x_idle {N C : Nat} {lo hi : Nat → Nat} {gv : Nat → Int32} {F : Nat → Nat → Int32} (hN : ok_net N C lo hi) (hF : xF F N C lo hi gv) : ob_Met K1 yX1_idle cX1_idle 4 (some .int) 3 72 [] (nI N, nI C, F) (fun r S' => ∃ F' : Nat → Nat → Int32, S' = (nI N, nI C, F') ∧ xF F' N C lo hi gv ∧ r = nI (cntq (fun k => allq (fun s => zrun lo hi (skp k) C s == zrun lo hi nsk C s) (2 ^ N)) C)) := by
  refine ob_intro C1 rfl rfl (Nat.le_of_ble_eq_true rfl) ?_
  intro E X G ret
  have g := G.1
  obtain ⟨hN2, hN7, hC24, hnet⟩ := id hN
  obtain ⟨⟨hFc, hFg⟩, hFp⟩ := id hF
  have hp := pw_128 hN7
  refine gm_aload_n g dX1_idle_0 rfl ?_
  refine gm_aload_n g dX1_idle_1 rfl ?_
  refine ob_getc G q30 dX1_idle_2 ?_
  refine gm_iconst (v := -1) g dX1_idle_5 (by decide) ?_
  refine ob_callv (as := [.int (nI C), .int (-1)]) (rest := []) G (x_findSets hN hF (mm := C) (-1) nsk (Nat.le_refl C) (nsk_ok hC24)) wX1_findSets rfl npX1_findSets rfl rfl rfl (Nat.le_of_ble_eq_true rfl) dX1_idle_6 (fun S' hp => ?_)
  obtain ⟨F1, rfl, hfr, hbc⟩ := hp
  have hzl : ∀ s, s < 2 ^ N → zrun lo hi nsk C s < 2 ^ N := fun s hs => zrun_lt nsk hnet hs C (Nat.le_refl C)
  generalize zrun lo hi nsk C = z at hbc hzl ret
  generalize hf : (fun k => allq (fun s => zrun lo hi (skp k) C s == z s) (2 ^ N)) = f at ret
  have hfs : ∀ k, f k = allq (fun s => zrun lo hi (skp k) C s == z s) (2 ^ N) := fun k => by rw [← hf]
  refine gm_iconst (v := nI 0) g dX1_idle_9 (by decide) ?_
  refine gm_istore_n (lv' := [.ref (ob_h X), .int (nI 0)]) g dX1_idle_10 rfl rfl ?_
  refine lq1 (A := Nat → Nat → Int32) (2 ^ N) (fun s F' => gm E 4 (ob_I K1 X (nI N, nI C, F')) [.ref (ob_h X), .int (nI s)] 11 []) (fun s F' => (∀ j, j ≠ 5 → F' j = F1 j) ∧ ∀ x, x < s → F' 5 x = nI (z x)) ?_ 0 F1 (Nat.zero_le _) ⟨fun _ _ => rfl, fun x hx => absurd hx (Nat.not_lt_zero x)⟩
  intro s F' hs hv ih
  obtain ⟨hfr2, h5⟩ := hv
  refine gm_iload_n g dX1_idle_11 rfl ?_
  refine gm_iconst (v := nI 1) g dX1_idle_12 (by decide) ?_
  refine gm_aload_n g dX1_idle_13 rfl ?_
  refine ob_getn G q29 dX1_idle_14 ?_
  refine gN_ishl g dX1_idle_17 (by omega) (sh1 (by omega)) ?_
  refine gm_eqi (y := nI (2 ^ N)) (by rw [Nat.one_mul]) ?_
  refine gN_icmp_ge g 39 dX1_idle_18 (by decide) (by omega) (by omega) (fun c1 => ?_) (fun c1 => ?_)
  · have e : s = 2 ^ N := by omega
    rw [e] at h5
    have hFr : xF F' N C lo hi gv := xF_fr (by rw [hfr2 0 (by decide), hfr 0 (by decide)]) (by rw [hfr2 1 (by decide), hfr 1 (by decide)]) (by rw [hfr2 2 (by decide), hfr 2 (by decide)]) (by rw [hfr2 8 (by decide), hfr 8 (by decide)]) hF
    refine gm_iconst (v := nI 0) g dX1_idle_39 (by decide) ?_
    refine gm_istore_n (lv' := [.ref (ob_h X), .int (nI 0)]) g dX1_idle_40 rfl rfl ?_
    refine gm_iconst (v := nI 0) g dX1_idle_41 (by decide) ?_
    refine gm_istore_n (lv' := [.ref (ob_h X), .int (nI 0), .int (nI 0)]) g dX1_idle_42 rfl rfl ?_
    refine lq1 (A := Nat → Nat → Int32) C (fun k F2 => gm E 4 (ob_I K1 X (nI N, nI C, F2)) [.ref (ob_h X), .int (nI (cntq f k)), .int (nI k)] 43 []) (fun k F2 => xF F2 N C lo hi gv ∧ ∀ x, x < 2 ^ N → F2 5 x = nI (z x)) ?_ 0 F' (Nat.zero_le _) ⟨hFr, h5⟩
    intro k F2 hk hv ih2
    obtain ⟨hF3, h6⟩ := hv
    have hcl := cntq_le f k
    refine gm_iload_n g dX1_idle_43 rfl ?_
    refine gm_aload_n g dX1_idle_44 rfl ?_
    refine ob_getc G q30 dX1_idle_45 ?_
    refine gN_icmp_ge g 75 dX1_idle_48 (by decide) (by omega) (by omega) (fun c2 => ?_) (fun c2 => ?_)
    · have e2 : k = C := by omega
      subst e2
      refine gm_iload_n g dX1_idle_75 rfl ?_
      exact ret _ _ _ _ dX1_idle_76 rfl ⟨F2, rfl, hF3, rfl⟩
    · refine gm_aload_n g dX1_idle_51 rfl ?_
      refine gm_iload_n g dX1_idle_52 rfl ?_
      refine ob_call (as := [.int (nI k)]) (rest := []) G (x_sameWithout hN hF3 c2 z h6 hzl) wX1_sameWithout rfl npX1_sameWithout rfl rfl rfl (Nat.le_of_ble_eq_true rfl) dX1_idle_53 (fun r S' hp => ?_)
      obtain ⟨F3, rfl, hfr3, rfl⟩ := hp
      refine gm_eqi (y := nI (f k).toNat) (by rw [hfs]) ?_
      have hF4 : xF F3 N C lo hi gv := xF_fr (hfr3 0 (by decide)) (hfr3 1 (by decide)) (hfr3 2 (by decide)) (hfr3 8 (by decide)) hF3
      have h7 : ∀ x, x < 2 ^ N → F3 5 x = nI (z x) := by rw [hfr3 5 (by decide)]; exact h6
      refine gm_istore_n (lv' := [.ref (ob_h X), .int (nI (cntq f k)), .int (nI k), .int (nI ((f k).toNat))]) g dX1_idle_56 rfl rfl ?_
      have tl : ∀ v : Nat, v = cntq f (k + 1) → gm E 4 (ob_I K1 X (nI N, nI C, F3)) [.ref (ob_h X), .int (nI (cntq f k)), .int (nI k), .int (nI ((f k).toNat))] 68 [.int (nI v)] := by
        intro v hv
        subst hv
        refine gm_istore_n (lv' := [.ref (ob_h X), .int (nI (cntq f (k + 1))), .int (nI k), .int (nI ((f k).toNat))]) g dX1_idle_68 rfl rfl ?_
        refine gN_iinc (lv' := [.ref (ob_h X), .int (nI (cntq f (k + 1))), .int (nI (k + 1)), .int (nI ((f k).toNat))]) g dX1_idle_69 rfl rfl rfl ?_
        refine gm_goto g 43 dX1_idle_72 (by decide) ?_
        exact gm_take 3 rfl (ih2 c2 F3 ⟨hF4, h7⟩)
      refine gm_iload_n g dX1_idle_57 rfl ?_
      refine gN_if_eq g 67 dX1_idle_58 (by decide) (bt_lt _) (fun c3 => ?_) (fun c3 => ?_)
      · refine gm_iload_n g dX1_idle_67 rfl ?_
        exact tl _ (by show _ = cntq f k + (f k).toNat; rw [c3]; rfl)
      · refine gm_iload_n g dX1_idle_61 rfl ?_
        refine gm_iconst (v := nI 1) g dX1_idle_62 (by decide) ?_
        refine gN_iadd g dX1_idle_63 ?_
        refine gm_goto g 68 dX1_idle_64 (by decide) ?_
        exact tl _ (by show _ = cntq f k + (f k).toNat; rw [show f k = true from by revert c3; cases f k <;> simp]; rfl)
  · have h1 := hzl s c1
    refine gm_aload_n g dX1_idle_21 rfl ?_
    refine ob_geta G 5 rfl q36 dX1_idle_22 ?_
    refine gm_iload_n g dX1_idle_25 rfl ?_
    refine gm_aload_n g dX1_idle_26 rfl ?_
    refine ob_geta G 4 rfl q35 dX1_idle_27 ?_
    refine gm_iload_n g dX1_idle_30 rfl ?_
    refine ob_sald (v := nI (z s)) G 4 rfl dX1_idle_31 (by omega) (by rw [hfr2 4 (by decide)]; exact hbc s c1) ?_
    refine ob_sast (y := nI (z s)) G 5 rfl dX1_idle_32 (by omega) (nb_vs (by omega)) ?_
    generalize hF2 : va_up F' 5 (upd (F' 5) s (nI (z s))) = F2
    refine gN_iinc (lv' := [.ref (ob_h X), .int (nI (s + 1))]) g dX1_idle_33 rfl rfl rfl ?_
    refine gm_goto g 11 dX1_idle_36 (by decide) ?_
    exact ih c1 F2 ⟨fun j hj => by rw [up_n hF2 hj]; exact hfr2 j hj, by rw [up_s hF2]; exact fill_s h5⟩
end
section
/-! plain words of the model: orders -/
set_option maxRecDepth 100000
def bi (n w : Int32) : Nat := if w < 0 ∨ n ≤ w then 0 else 1
theorem bi_lt (n w : Int32) : bi n w < 2147483648 := by unfold bi; split <;> decide
theorem bi_0 {n w : Int32} (h : w < 0 ∨ n ≤ w) : bi n w = 0 := by unfold bi; rw [if_pos h]
theorem bi_1 {n w : Int32} (h1 : ¬ w < 0) (h2 : ¬ n ≤ w) : bi n w = 1 := by unfold bi; rw [if_neg (fun h => h.elim h1 h2)]
theorem bi_z {n w : Int32} (h : bi n w = 0) : bw n w ≠ 0 := by
  unfold bi at h
  unfold bw
  by_cases q : w < 0 ∨ n ≤ w
  · rw [if_pos q]; decide
  · rw [if_neg q] at h; cases h
theorem bi_n {n w : Int32} (h : bi n w ≠ 0) : bw n w = 0 := by
  unfold bi at h
  unfold bw
  by_cases q : w < 0 ∨ n ≤ w
  · rw [if_pos q] at h; exact absurd rfl h
  · rw [if_neg q]
theorem allq_f {f : Nat → Bool} {x : Nat} (h : f x = false) : ∀ n, x < n → allq f n = false := by
  intro n
  induction n with
  | zero => intro h; omega
  | succ n ih =>
    intro hx
    show (allq f n && f n) = false
    by_cases e : x = n
    · subst e; rw [h]; cases allq f x <;> rfl
    · rw [ih (by omega)]; rfl
theorem allq_s {f : Nat → Bool} {n : Nat} (h1 : allq f n = true) (h2 : f n = true) : allq f (n + 1) = true := by
  show (allq f n && f n) = true
  rw [h1, h2]; rfl
def swp (p : List Nat) (i j : Nat) : List Nat := (p.set i (p.getD j 0)).set j (p.getD i 0)
def fat (p : List Nat) : Nat → Nat
  | 0 => 0
  | k + 1 => if p.getD (k + 1) 0 < p.getD k 0 then fat p k else k + 1
def fto (p : List Nat) (a : Nat) : Nat → Nat
  | 0 => 0
  | k + 1 => if p.getD (k + 1) 0 < p.getD a 0 then fto p a k else k + 1
def rvl (N a : Nat) : Nat → Nat → List Nat → List Nat
  | 0, _, p => p
  | f + 1, x, p => if a + x < N - x then rvl N a f (x + 1) (swp p (a + x) (N - x)) else p
def nxt (N : Nat) (p : List Nat) : Bool × List Nat := if fat p (N - 1) = 0 then (false, p) else (true, rvl N (fat p (N - 1) - 1) N 1 (swp p (fat p (N - 1) - 1) (fto p (fat p (N - 1) - 1) (N - 1))))
def vis (N : Nat) : Nat → List Nat → List (List Nat)
  | 0, _ => []
  | f + 1, p => p :: (if (nxt N p).1 = true then vis N f (nxt N p).2 else [])
def vend (N : Nat) : Nat → List Nat → Bool
  | 0, _ => false
  | f + 1, p => if (nxt N p).1 = true then vend N f (nxt N p).2 else true
theorem vis_len (N : Nat) : ∀ f p, (vis N f p).length ≤ f := by
  intro f
  induction f with
  | zero => intro p; exact Nat.le_refl 0
  | succ f ih =>
    intro p
    show (p :: _).length ≤ f + 1
    rw [List.length_cons]
    split
    · have := ih (nxt N p).2
      omega
    · simp
def okp (N : Nat) (p : List Nat) : Prop := p.length = N ∧ ∀ x, p.getD x 0 < 2147483648
def pv (p : List Nat) : Nat → Int32 := fun x => nI (p.getD x 0)
def orF (F : Nat → Nat → Int32) (p : List Nat) : Prop := ∀ x, x < p.length → F 3 x = pv p x
theorem getD_set (p : List Nat) (i v x : Nat) : (p.set i v).getD x 0 = if i = x ∧ i < p.length then v else p.getD x 0 := by
  rw [List.getD_eq_getElem?_getD, List.getD_eq_getElem?_getD, List.getElem?_set]
  by_cases e : i = x
  · rw [if_pos e]
    by_cases l : i < p.length
    · rw [if_pos l, if_pos ⟨e, l⟩]; rfl
    · rw [if_neg l, if_neg (fun h => l h.2), List.getElem?_eq_none (by omega)]
  · rw [if_neg e, if_neg (fun h => e h.1)]
theorem swp_len (p : List Nat) (i j : Nat) : (swp p i j).length = p.length := by unfold swp; rw [List.length_set, List.length_set]
theorem swp_get {p : List Nat} {i j : Nat} (hi : i < p.length) (hj : j < p.length) (x : Nat) : (swp p i j).getD x 0 = if x = j then p.getD i 0 else if x = i then p.getD j 0 else p.getD x 0 := by
  unfold swp
  rw [getD_set, getD_set, List.length_set]
  by_cases e : x = j
  · rw [if_pos e, if_pos ⟨e.symm, hj⟩]
  · rw [if_neg e, if_neg (fun h => e h.1.symm)]
    by_cases e2 : x = i
    · rw [if_pos e2, if_pos ⟨e2.symm, hi⟩]
    · rw [if_neg e2, if_neg (fun h => e2 h.1.symm)]
theorem swp_ok {N : Nat} {p : List Nat} (h : okp N p) {i j : Nat} (hi : i < N) (hj : j < N) : okp N (swp p i j) := by
  refine ⟨by rw [swp_len]; exact h.1, fun x => ?_⟩
  rw [swp_get (by rw [h.1]; exact hi) (by rw [h.1]; exact hj)]
  have h1 := h.2 i
  have h2 := h.2 j
  have h3 := h.2 x
  split
  · exact h1
  · split
    · exact h2
    · exact h3
theorem orF_swp {F F1 F2 : Nat → Nat → Int32} {N : Nat} {p : List Nat} (h : okp N p) (ho : orF F p) {i j : Nat} (hi : i < N) (hj : j < N) (h1 : va_up F 3 (upd (F 3) i (nI (p.getD j 0))) = F1) (h2 : va_up F1 3 (upd (F1 3) j (nI (p.getD i 0))) = F2) : orF F2 (swp p i j) := by
  intro x hx
  rw [swp_len] at hx
  rw [up_s h2, up_s h1]
  unfold pv
  rw [swp_get (by rw [h.1]; exact hi) (by rw [h.1]; exact hj)]
  by_cases e : x = j
  · rw [if_pos e, e, upd_s]
  · rw [if_neg e, upd_n _ _ e]
    by_cases e2 : x = i
    · rw [if_pos e2, e2, upd_s]
    · rw [if_neg e2, upd_n _ _ e2]
      exact ho x hx
theorem fat_le (p : List Nat) : ∀ k, fat p k ≤ k := by
  intro k
  induction k with
  | zero => exact Nat.le_refl 0
  | succ k ih =>
    show (if p.getD (k + 1) 0 < p.getD k 0 then fat p k else k + 1) ≤ k + 1
    split <;> omega
theorem fto_in (p : List Nat) (a : Nat) : ∀ k, a ≤ k → a ≤ fto p a k ∧ fto p a k ≤ k := by
  intro k
  induction k with
  | zero => intro h; exact ⟨h, Nat.le_refl 0⟩
  | succ k ih =>
    intro h
    show a ≤ (if p.getD (k + 1) 0 < p.getD a 0 then fto p a k else k + 1) ∧ (if p.getD (k + 1) 0 < p.getD a 0 then fto p a k else k + 1) ≤ k + 1
    by_cases q : p.getD (k + 1) 0 < p.getD a 0
    · rw [if_pos q]
      have hne : a ≠ k + 1 := fun e => by rw [e] at q; omega
      have := ih (by omega)
      omega
    · rw [if_neg q]; omega
theorem rvl_ok {N a : Nat} : ∀ f x p, okp N p → 1 ≤ x → okp N (rvl N a f x p) := by
  intro f
  induction f with
  | zero => intro x p h _; exact h
  | succ f ih =>
    intro x p h hx
    show okp N (if _ then _ else _)
    split
    · exact ih _ _ (swp_ok h (by omega) (by omega)) (by omega)
    · exact h
theorem nxt_ok {N : Nat} {p : List Nat} (hN : 2 ≤ N) (h : okp N p) : okp N (nxt N p).2 := by
  unfold nxt
  have h1 := fat_le p (N - 1)
  by_cases e : fat p (N - 1) = 0
  · rw [if_pos e]; exact h
  · rw [if_neg e]
    have h2 := fto_in p (fat p (N - 1) - 1) (N - 1) (by omega)
    exact rvl_ok _ _ _ (swp_ok h (by omega) (by omega)) (Nat.le_refl 1)
def atv (t : Nat) : Int32 := if t = 0 then -1 else nI (t - 1)
theorem atv_0 : atv 0 = -1 := rfl
theorem atv_s (k : Nat) : atv (k + 1) = nI k := by unfold atv; rw [if_neg (by omega)]; rfl
theorem atv_d (k : Nat) : nI k + Int32.ofInt (-1) = atv k := by
  cases k with
  | zero => decide
  | succ k => rw [atv_s]; exact pk_m1 k
theorem cmI_congr {N i j : Nat} {v v' : Nat → Int32} (hi : i < N) (hj : j < N) (h : ∀ x, x < N → v x = v' x) : ∀ x, x < N → cmI i j v x = cmI i j v' x := by
  intro x hx
  unfold cmI
  rw [h i hi, h j hj]
  split
  · by_cases e : x = j
    · rw [e, upd_s, upd_s]
    · rw [upd_n _ _ e, upd_n _ _ e]
      by_cases e2 : x = i
      · rw [e2, upd_s, upd_s]
      · rw [upd_n _ _ e2, upd_n _ _ e2]; exact h x hx
  · exact h x hx
theorem wrun_k (lo hi : Nat → Nat) (sk : Nat → Bool) (k : Nat) (v : Nat → Int32) : wrun lo hi sk (k + 1) v = if sk k = true then wrun lo hi sk k v else cmI (lo k) (hi k) (wrun lo hi sk k v) := rfl
theorem wrun_congr {N C : Nat} {lo hi : Nat → Nat} (sk : Nat → Bool) (hn : ∀ k, k < C → lo k < N ∧ hi k < N ∧ lo k ≠ hi k) {v v' : Nat → Int32} (h : ∀ x, x < N → v x = v' x) : ∀ k, k ≤ C → ∀ x, x < N → wrun lo hi sk k v x = wrun lo hi sk k v' x := by
  intro k
  induction k with
  | zero => intro _ x hx; exact h x hx
  | succ k ih =>
    intro hk
    rw [wrun_k lo hi sk k v, wrun_k lo hi sk k v']
    by_cases q : sk k = true
    · rw [if_pos q, if_pos q]; exact ih (by omega)
    · rw [if_neg q, if_neg q]
      have := hn k (by omega)
      exact cmI_congr this.1 this.2.1 (ih (by omega))
def exb (lo hi : Nat → Nat) (k : Nat) (v : Nat → Int32) : Bool := decide (wrun lo hi nsk k v (hi k) < wrun lo hi nsk k v (lo k))
def srt (N : Nat) (f : Nat → Int32) : Bool := allq (fun x => f x == nI (x + 1)) N
end
section
set_option maxRecDepth 100000
set_option maxHeartbeats 4000000 in
theorem m_noWire (n c : Int32) (F : Nat → Nat → Int32) (w : Int32) : ob_Met K2 yX2_noWire cX2_noWire 2 (some .boolean) 0 0 [.int w] (n, c, F) (fun r S' => S' = (n, c, F) ∧ r = nI (bw n w)) := by
  refine ob_intro C2 rfl rfl (Nat.le_of_ble_eq_true rfl) ?_
  intro E X G ret
  have g := G.1
  refine gm_iload_n g dX2_noWire_0 rfl ?_
  refine gm_if_lt g 12 dX2_noWire_1 (by decide) (fun c1 => ?_) (fun c1 => ?_)
  · refine gm_iconst (v := nI 1) g dX2_noWire_12 (by decide) ?_
    refine gm_goto g 17 dX2_noWire_13 (by decide) ?_
    exact ret _ _ _ _ dX2_noWire_17 rfl ⟨rfl, by rw [bw_1 (Or.inl c1)]⟩
  · refine gm_iload_n g dX2_noWire_4 rfl ?_
    refine gm_aload_n g dX2_noWire_5 rfl ?_
    refine ob_getn G q171 dX2_noWire_6 ?_
    refine gm_icmp_lt g 16 dX2_noWire_9 (by decide) (fun c2 => ?_) (fun c2 => ?_)
    · refine gm_iconst (v := nI 0) g dX2_noWire_16 (by decide) ?_
      exact ret _ _ _ _ dX2_noWire_17 rfl ⟨rfl, by rw [bw_0 c1 (fun h => i_nle.mpr c2 h)]⟩
    · refine gm_iconst (v := nI 1) g dX2_noWire_12 (by decide) ?_
      refine gm_goto g 17 dX2_noWire_13 (by decide) ?_
      exact ret _ _ _ _ dX2_noWire_17 rfl ⟨rfl, by rw [bw_1 (Or.inr (i_nlt.mp c2))]⟩
set_option maxHeartbeats 4000000 in
theorem m_is (n c : Int32) (F : Nat → Nat → Int32) (w : Int32) : ob_Met K2 yX2_is cX2_is 2 (some .boolean) 0 0 [.int w] (n, c, F) (fun r S' => S' = (n, c, F) ∧ r = nI (bi c w)) := by
  refine ob_intro C2 rfl rfl (Nat.le_of_ble_eq_true rfl) ?_
  intro E X G ret
  have g := G.1
  refine gm_iload_n g dX2_is_0 rfl ?_
  refine gm_if_lt g 16 dX2_is_1 (by decide) (fun c1 => ?_) (fun c1 => ?_)
  · refine gm_iconst (v := nI 0) g dX2_is_16 (by decide) ?_
    exact ret _ _ _ _ dX2_is_17 rfl ⟨rfl, by rw [bi_0 (Or.inl c1)]⟩
  · refine gm_iload_n g dX2_is_4 rfl ?_
    refine gm_aload_n g dX2_is_5 rfl ?_
    refine ob_getc G q172 dX2_is_6 ?_
    refine gm_icmp_ge g 16 dX2_is_9 (by decide) (fun c2 => ?_) (fun c2 => ?_)
    · refine gm_iconst (v := nI 0) g dX2_is_16 (by decide) ?_
      exact ret _ _ _ _ dX2_is_17 rfl ⟨rfl, by rw [bi_0 (Or.inr c2)]⟩
    · refine gm_iconst (v := nI 1) g dX2_is_12 (by decide) ?_
      refine gm_goto g 17 dX2_is_13 (by decide) ?_
      exact ret _ _ _ _ dX2_is_17 rfl ⟨rfl, by rw [bi_1 c1 c2]⟩
set_option maxHeartbeats 4000000 in
theorem m_add {N C : Nat} {lo hi : Nat → Nat} {gv : Nat → Int32} {F : Nat → Nat → Int32} (hN : ok_net N C lo hi) (hF : mF F N C lo hi gv) (i j : Int32) : ob_Met K2 yX2_add cX2_add 3 (some .int) 1 21 [.int i, .int j] (nI N, nI C, F) (fun r S' => ∃ (C' : Nat) (lo' hi' : Nat → Nat) (F' : Nat → Nat → Int32), S' = (nI N, nI C', F') ∧ ok_net N C' lo' hi' ∧ mF F' N C' lo' hi' gv ∧ (r, C', lo', hi') = p_add N C lo hi i j) := by
  refine ob_intro C2 rfl rfl (Nat.le_of_ble_eq_true rfl) ?_
  intro E X G ret
  have g := G.1
  obtain ⟨hN2, hN7, hC24, hnet⟩ := id hN
  obtain ⟨hFc, hFg⟩ := id hF
  refine gm_aload_n g dX2_add_0 rfl ?_
  refine gm_iload_n g dX2_add_1 rfl ?_
  refine ob_call (as := [.int i]) (rest := []) G (m_noWire (nI N) (nI C) F i) wX2_noWire rfl npX2_noWire rfl rfl rfl (Nat.le_of_ble_eq_true rfl) dX2_add_2 (fun r S' hp => ?_)
  obtain ⟨rfl, rfl⟩ := hp
  refine gN_if_ne g 21 dX2_add_5 (by decide) (bw_lt _ _) (fun c1 => ?_) (fun c1 => ?_)
  · refine gm_iconst (v := -1) g dX2_add_21 (by decide) ?_
    exact ret _ _ _ _ dX2_add_22 rfl ⟨C, lo, hi, F, rfl, hN, hF, by unfold p_add; rw [if_pos (Or.inl c1)]⟩
  · refine gm_aload_n g dX2_add_8 rfl ?_
    refine gm_iload_n g dX2_add_9 rfl ?_
    refine ob_call (as := [.int j]) (rest := []) G (m_noWire (nI N) (nI C) F j) wX2_noWire rfl npX2_noWire rfl rfl rfl (Nat.le_of_ble_eq_true rfl) dX2_add_10 (fun r S' hp => ?_)
    obtain ⟨rfl, rfl⟩ := hp
    refine gN_if_ne g 21 dX2_add_13 (by decide) (bw_lt _ _) (fun c2 => ?_) (fun c2 => ?_)
    · refine gm_iconst (v := -1) g dX2_add_21 (by decide) ?_
      exact ret _ _ _ _ dX2_add_22 rfl ⟨C, lo, hi, F, rfl, hN, hF, by unfold p_add; rw [if_pos (Or.inr (Or.inl c2))]⟩
    · refine gm_iload_n g dX2_add_16 rfl ?_
      refine gm_iload_n g dX2_add_17 rfl ?_
      refine gm_icmp_ne g 23 dX2_add_18 (by decide) (fun c3 => ?_) (fun c3 => ?_)
      · refine gm_aload_n g dX2_add_23 rfl ?_
        refine ob_getc G q172 dX2_add_24 ?_
        refine gm_bipush (v := nI 24) g dX2_add_27 (by decide) ?_
        refine gN_icmp_ne g 35 dX2_add_29 (by decide) (by omega) (by omega) (fun c4 => ?_) (fun c4 => ?_)
        · obtain ⟨a, ha, ei⟩ := bw_in (by omega) c1
          obtain ⟨b, hb, ej⟩ := bw_in (by omega) c2
          subst ei; subst ej
          have hab : a ≠ b := fun h => c3 (by rw [h])
          refine gm_aload_n g dX2_add_35 rfl ?_
          refine ob_geta G 0 rfl q173 dX2_add_36 ?_
          refine gm_aload_n g dX2_add_39 rfl ?_
          refine ob_getc G q172 dX2_add_40 ?_
          refine gm_iload_n g dX2_add_43 rfl ?_
          refine ob_iast G 0 rfl dX2_add_44 (by omega) ?_
          generalize hF1 : va_up F 0 (upd (F 0) C (nI a)) = F1
          refine gm_aload_n g dX2_add_45 rfl ?_
          refine ob_geta G 1 rfl q174 dX2_add_46 ?_
          refine gm_aload_n g dX2_add_49 rfl ?_
          refine ob_getc G q172 dX2_add_50 ?_
          refine gm_iload_n g dX2_add_53 rfl ?_
          refine ob_iast G 1 rfl dX2_add_54 (by omega) ?_
          generalize hF2 : va_up F1 1 (upd (F1 1) C (nI b)) = F2
          refine gm_aload_n g dX2_add_55 rfl ?_
          refine gm_dup g dX2_add_56 rfl ?_
          refine ob_getc G q172 dX2_add_57 ?_
          refine gm_iconst (v := nI 1) g dX2_add_60 (by decide) ?_
          refine gN_iadd g dX2_add_61 ?_
          refine ob_putc G q172 rfl (by decide +kernel) dX2_add_62 ?_
          refine gm_aload_n g dX2_add_65 rfl ?_
          refine ob_getc G q172 dX2_add_66 ?_
          exact ret _ _ _ _ dX2_add_69 rfl ⟨C + 1, va_up lo C a, va_up hi C b, F2, rfl, ok_add hN ha hb hab c4, mF_add hF hF1 hF2, by unfold p_add; rw [if_neg (fun h => h.elim (fun h => h c1) (fun h => h.elim (fun h => h c2) c3)), if_neg c4, nI_clamp (by omega), nI_clamp (by omega)]⟩
        · refine gm_bipush (v := -2) g dX2_add_32 (by decide) ?_
          exact ret _ _ _ _ dX2_add_34 rfl ⟨C, lo, hi, F, rfl, hN, hF, by unfold p_add; rw [if_neg (fun h => h.elim (fun h => h c1) (fun h => h.elim (fun h => h c2) c3)), if_pos c4]⟩
      · refine gm_iconst (v := -1) g dX2_add_21 (by decide) ?_
        exact ret _ _ _ _ dX2_add_22 rfl ⟨C, lo, hi, F, rfl, hN, hF, by unfold p_add; rw [if_pos (Or.inr (Or.inr c3))]⟩
set_option maxHeartbeats 4000000 in
theorem m_drop {N C : Nat} {lo hi : Nat → Nat} {gv : Nat → Int32} {F : Nat → Nat → Int32} (hN : ok_net N C lo hi) (hF : mF F N C lo hi gv) (k : Int32) : ob_Met K2 yX2_drop cX2_drop 3 (some .int) 1 21 [.int k] (nI N, nI C, F) (fun r S' => ∃ (C' : Nat) (lo' hi' : Nat → Nat) (F' : Nat → Nat → Int32), S' = (nI N, nI C', F') ∧ ok_net N C' lo' hi' ∧ mF F' N C' lo' hi' gv ∧ (r, C', lo', hi') = p_drop C lo hi k) := by
  refine ob_intro C2 rfl rfl (Nat.le_of_ble_eq_true rfl) ?_
  intro E X G ret
  have g := G.1
  obtain ⟨hN2, hN7, hC24, hnet⟩ := id hN
  obtain ⟨hFc, hFg⟩ := id hF
  refine gm_aload_n g dX2_drop_0 rfl ?_
  refine gm_iload_n g dX2_drop_1 rfl ?_
  refine ob_call (as := [.int k]) (rest := []) G (m_is (nI N) (nI C) F k) wX2_is rfl npX2_is rfl rfl rfl (Nat.le_of_ble_eq_true rfl) dX2_drop_2 (fun r S' hp => ?_)
  obtain ⟨rfl, rfl⟩ := hp
  refine gN_if_ne g 11 dX2_drop_5 (by decide) (bi_lt _ _) (fun c1 => ?_) (fun c1 => ?_)
  · have hb0 : bw (nI C) k = 0 := bi_n c1
    obtain ⟨a, ha, ek⟩ := bw_in (by omega) hb0
    subst ek
    refine gm_aload_n g dX2_drop_11 rfl ?_
    refine gm_dup g dX2_drop_12 rfl ?_
    refine ob_getc G q172 dX2_drop_13 ?_
    refine gm_iconst (v := nI 1) g dX2_drop_16 (by decide) ?_
    refine gN_isub g dX2_drop_17 (by omega) ?_
    refine ob_putc G q172 rfl (by decide +kernel) dX2_drop_18 ?_
    refine gm_iload_n g dX2_drop_21 rfl ?_
    refine gm_istore_n (lv' := [.ref (ob_h X), .int (nI a), .int (nI a)]) g dX2_drop_22 rfl rfl ?_
    refine lq1 (A := Nat → Nat → Int32) (C - 1) (fun i F' => gm E 3 (ob_I K2 X (nI N, nI (C - 1), F')) [.ref (ob_h X), .int (nI a), .int (nI i)] 23 []) (fun i F' => a ≤ i ∧ F' 2 = F 2 ∧ (∀ x, F' 0 x = if a ≤ x ∧ x < i then F 0 (x + 1) else F 0 x) ∧ (∀ x, F' 1 x = if a ≤ x ∧ x < i then F 1 (x + 1) else F 1 x)) ?_ a F (by omega) ⟨Nat.le_refl a, rfl, fun x => by rw [if_neg (by omega)], fun x => by rw [if_neg (by omega)]⟩
    intro i F' hle hv ih
    obtain ⟨hai, h2, h0, h1⟩ := hv
    refine gm_iload_n g dX2_drop_23 rfl ?_
    refine gm_aload_n g dX2_drop_24 rfl ?_
    refine ob_getc G q172 dX2_drop_25 ?_
    refine gN_icmp_ge g 65 dX2_drop_28 (by decide) (by omega) (by omega) (fun c3 => ?_) (fun c3 => ?_)
    · have e : i = C - 1 := by omega
      subst e
      refine gm_aload_n g dX2_drop_65 rfl ?_
      refine ob_getc G q172 dX2_drop_66 ?_
      exact ret _ _ _ _ dX2_drop_69 rfl ⟨C - 1, _, _, F', rfl, ok_drop hN ha, mF_drop hF h0 h1 h2, by unfold p_drop; rw [if_neg (by rw [hb0]; decide), nI_clamp (by omega)]⟩
    · have hL := hnet (i + 1) (by omega)
      have hc := hFc (i + 1) (by omega)
      refine gm_aload_n g dX2_drop_31 rfl ?_
      refine ob_geta G 0 rfl q173 dX2_drop_32 ?_
      refine gm_iload_n g dX2_drop_35 rfl ?_
      refine gm_aload_n g dX2_drop_36 rfl ?_
      refine ob_geta G 0 rfl q173 dX2_drop_37 ?_
      refine gm_iload_n g dX2_drop_40 rfl ?_
      refine gm_iconst (v := nI 1) g dX2_drop_41 (by decide) ?_
      refine gN_iadd g dX2_drop_42 ?_
      refine ob_iald (v := nI (lo (i + 1))) G 0 rfl dX2_drop_43 (by omega) (by rw [h0, if_neg (by omega)]; exact hc.1) ?_
      refine ob_iast G 0 rfl dX2_drop_44 (by omega) ?_
      generalize hF1 : va_up F' 0 (upd (F' 0) i (nI (lo (i + 1)))) = F1
      refine gm_aload_n g dX2_drop_45 rfl ?_
      refine ob_geta G 1 rfl q174 dX2_drop_46 ?_
      refine gm_iload_n g dX2_drop_49 rfl ?_
      refine gm_aload_n g dX2_drop_50 rfl ?_
      refine ob_geta G 1 rfl q174 dX2_drop_51 ?_
      refine gm_iload_n g dX2_drop_54 rfl ?_
      refine gm_iconst (v := nI 1) g dX2_drop_55 (by decide) ?_
      refine gN_iadd g dX2_drop_56 ?_
      refine ob_iald (v := nI (hi (i + 1))) G 1 rfl dX2_drop_57 (by omega) (by rw [up_n hF1 (by decide), h1, if_neg (by omega)]; exact hc.2) ?_
      refine ob_iast G 1 rfl dX2_drop_58 (by omega) ?_
      generalize hF2 : va_up F1 1 (upd (F1 1) i (nI (hi (i + 1)))) = F2
      refine gN_iinc (lv' := [.ref (ob_h X), .int (nI a), .int (nI (i + 1))]) g dX2_drop_59 rfl rfl rfl ?_
      refine gm_goto g 23 dX2_drop_62 (by decide) ?_
      exact ih c3 F2 ⟨by omega, by rw [up_n hF2 (by decide), up_n hF1 (by decide)]; exact h2, by rw [up_n hF2 (by decide), up_s hF1]; exact dr_step h0 hai hc.1.symm, by rw [up_s hF2, up_n hF1 (by decide)]; exact dr_step h1 hai hc.2.symm⟩
  · refine gm_bipush (v := -4) g dX2_drop_8 (by decide) ?_
    exact ret _ _ _ _ dX2_drop_10 rfl ⟨C, lo, hi, F, rfl, hN, hF, by unfold p_drop; rw [if_pos (bi_z c1)]⟩
set_option maxHeartbeats 4000000 in
theorem m_swap {N C : Nat} {lo hi : Nat → Nat} {gv : Nat → Int32} {F : Nat → Nat → Int32} (hN : ok_net N C lo hi) (hF : mF F N C lo hi gv) (k : Int32) : ob_Met K2 yX2_swap cX2_swap 4 (some .int) 0 0 [.int k] (nI N, nI C, F) (fun r S' => ∃ (C' : Nat) (lo' hi' : Nat → Nat) (F' : Nat → Nat → Int32), S' = (nI N, nI C', F') ∧ ok_net N C' lo' hi' ∧ mF F' N C' lo' hi' gv ∧ (r, C', lo', hi') = p_swap C lo hi k) := by
  refine ob_intro C2 rfl rfl (Nat.le_of_ble_eq_true rfl) ?_
  intro E X G ret
  have g := G.1
  obtain ⟨hN2, hN7, hC24, hnet⟩ := id hN
  obtain ⟨hFc, hFg⟩ := id hF
  refine gm_iload_n g dX2_swap_0 rfl ?_
  refine gm_if_lt g 14 dX2_swap_1 (by decide) (fun c1 => ?_) (fun c1 => ?_)
  · refine gm_bipush (v := -4) g dX2_swap_14 (by decide) ?_
    exact ret _ _ _ _ dX2_swap_16 rfl ⟨C, lo, hi, F, rfl, hN, hF, by unfold p_swap; rw [if_pos (Or.inl c1)]⟩
  · refine gm_iload_n g dX2_swap_4 rfl ?_
    refine gm_aload_n g dX2_swap_5 rfl ?_
    refine ob_getc G q172 dX2_swap_6 ?_
    refine gm_iconst (v := nI 1) g dX2_swap_9 (by decide) ?_
    refine gm_isub (v := nI C - nI 1) g dX2_swap_10 (rfl) ?_
    refine gm_icmp_lt g 17 dX2_swap_11 (by decide) (fun c2 => ?_) (fun c2 => ?_)
    · have hno : ¬ (k < 0 ∨ nI C - nI 1 ≤ k) := fun h => h.elim c1 (i_nle.mpr c2)
      obtain ⟨a, ha, ek⟩ := sw_in hC24 c1 c2
      subst ek
      have hL := hnet a (by omega)
      have hL1 := hnet (a + 1) (by omega)
      have hc := hFc a (by omega)
      have hc1 := hFc (a + 1) (by omega)
      refine gm_aload_n g dX2_swap_17 rfl ?_
      refine ob_geta G 0 rfl q173 dX2_swap_18 ?_
      refine gm_iload_n g dX2_swap_21 rfl ?_
      refine ob_iald (v := nI (lo a)) G 0 rfl dX2_swap_22 (by omega) (hc.1) ?_
      refine gm_istore_n (lv' := [.ref (ob_h X), .int (nI a), .int (nI (lo a))]) g dX2_swap_23 rfl rfl ?_
      refine gm_aload_n g dX2_swap_24 rfl ?_
      refine ob_geta G 1 rfl q174 dX2_swap_25 ?_
      refine gm_iload_n g dX2_swap_28 rfl ?_
      refine ob_iald (v := nI (hi a)) G 1 rfl dX2_swap_29 (by omega) (hc.2) ?_
      refine gm_istore_n (lv' := [.ref (ob_h X), .int (nI a), .int (nI (lo a)), .int (nI (hi a))]) g dX2_swap_30 rfl rfl ?_
      refine gm_aload_n g dX2_swap_31 rfl ?_
      refine ob_geta G 0 rfl q173 dX2_swap_32 ?_
      refine gm_iload_n g dX2_swap_35 rfl ?_
      refine gm_aload_n g dX2_swap_36 rfl ?_
      refine ob_geta G 0 rfl q173 dX2_swap_37 ?_
      refine gm_iload_n g dX2_swap_40 rfl ?_
      refine gm_iconst (v := nI 1) g dX2_swap_41 (by decide) ?_
      refine gN_iadd g dX2_swap_42 ?_
      refine ob_iald (v := nI (lo (a + 1))) G 0 rfl dX2_swap_43 (by omega) (hc1.1) ?_
      refine ob_iast G 0 rfl dX2_swap_44 (by omega) ?_
      generalize hF1 : va_up F 0 (upd (F 0) a (nI (lo (a + 1)))) = F1
      refine gm_aload_n g dX2_swap_45 rfl ?_
      refine ob_geta G 1 rfl q174 dX2_swap_46 ?_
      refine gm_iload_n g dX2_swap_49 rfl ?_
      refine gm_aload_n g dX2_swap_50 rfl ?_
      refine ob_geta G 1 rfl q174 dX2_swap_51 ?_
      refine gm_iload_n g dX2_swap_54 rfl ?_
      refine gm_iconst (v := nI 1) g dX2_swap_55 (by decide) ?_
      refine gN_iadd g dX2_swap_56 ?_
      refine ob_iald (v := nI (hi (a + 1))) G 1 rfl dX2_swap_57 (by omega) (by rw [up_n hF1 (by decide)]; exact hc1.2) ?_
      refine ob_iast G 1 rfl dX2_swap_58 (by omega) ?_
      generalize hF2 : va_up F1 1 (upd (F1 1) a (nI (hi (a + 1)))) = F2
      refine gm_aload_n g dX2_swap_59 rfl ?_
      refine ob_geta G 0 rfl q173 dX2_swap_60 ?_
      refine gm_iload_n g dX2_swap_63 rfl ?_
      refine gm_iconst (v := nI 1) g dX2_swap_64 (by decide) ?_
      refine gN_iadd g dX2_swap_65 ?_
      refine gm_iload_n g dX2_swap_66 rfl ?_
      refine ob_iast G 0 rfl dX2_swap_67 (by omega) ?_
      generalize hF3 : va_up F2 0 (upd (F2 0) (a + 1) (nI (lo a))) = F3
      refine gm_aload_n g dX2_swap_68 rfl ?_
      refine ob_geta G 1 rfl q174 dX2_swap_69 ?_
      refine gm_iload_n g dX2_swap_72 rfl ?_
      refine gm_iconst (v := nI 1) g dX2_swap_73 (by decide) ?_
      refine gN_iadd g dX2_swap_74 ?_
      refine gm_iload_n g dX2_swap_75 rfl ?_
      refine ob_iast G 1 rfl dX2_swap_76 (by omega) ?_
      generalize hF4 : va_up F3 1 (upd (F3 1) (a + 1) (nI (hi a))) = F4
      refine gm_iconst (v := nI 0) g dX2_swap_77 (by decide) ?_
      exact ret _ _ _ _ dX2_swap_78 rfl ⟨C, _, _, F4, rfl, ok_swap hN ha, mF_swap hF ha hF1 hF2 hF3 hF4, by unfold p_swap; rw [if_neg hno, nI_clamp (by omega)]⟩
    · refine gm_bipush (v := -4) g dX2_swap_14 (by decide) ?_
      exact ret _ _ _ _ dX2_swap_16 rfl ⟨C, lo, hi, F, rfl, hN, hF, by unfold p_swap; rw [if_pos (Or.inr (i_nlt.mp c2))]⟩
set_option maxHeartbeats 4000000 in
theorem m_turn {N C : Nat} {lo hi : Nat → Nat} {gv : Nat → Int32} {F : Nat → Nat → Int32} (hN : ok_net N C lo hi) (hF : mF F N C lo hi gv) : ob_Met K2 yX2_turn cX2_turn 3 (some .int) 0 0 [] (nI N, nI C, F) (fun r S' => ∃ (C' : Nat) (lo' hi' : Nat → Nat) (F' : Nat → Nat → Int32), S' = (nI N, nI C', F') ∧ ok_net N C' lo' hi' ∧ mF F' N C' lo' hi' gv ∧ (r, C', lo', hi') = p_turn N C lo hi) := by
  refine ob_intro C2 rfl rfl (Nat.le_of_ble_eq_true rfl) ?_
  intro E X G ret
  have g := G.1
  obtain ⟨hN2, hN7, hC24, hnet⟩ := id hN
  obtain ⟨hFc, hFg⟩ := id hF
  refine gm_iconst (v := nI 0) g dX2_turn_0 (by decide) ?_
  refine gm_istore_n (lv' := [.ref (ob_h X), .int (nI 0)]) g dX2_turn_1 rfl rfl ?_
  refine lq1 (A := Nat → Nat → Int32) C (fun k F' => gm E 3 (ob_I K2 X (nI N, nI C, F')) [.ref (ob_h X), .int (nI k)] 2 []) (fun k F' => F' 2 = F 2 ∧ ∀ x, x < C → F' 0 x = nI (if x < k then N - 1 - hi x else lo x) ∧ F' 1 x = nI (if x < k then N - 1 - lo x else hi x)) ?_ 0 F (Nat.zero_le _) ⟨rfl, fun x hx => by rw [if_neg (by omega), if_neg (by omega)]; exact hFc x hx⟩
  intro k F' hk hv ih
  obtain ⟨h2, h0⟩ := hv
  refine gm_iload_n g dX2_turn_2 rfl ?_
  refine gm_aload_n g dX2_turn_3 rfl ?_
  refine ob_getc G q172 dX2_turn_4 ?_
  refine gN_icmp_ge g 56 dX2_turn_7 (by decide) (by omega) (by omega) (fun c3 => ?_) (fun c3 => ?_)
  · have e : k = C := by omega
    subst e
    refine gm_aload_n g dX2_turn_56 rfl ?_
    refine ob_getc G q172 dX2_turn_57 ?_
    exact ret _ _ _ _ dX2_turn_60 rfl ⟨k, _, _, F', rfl, ok_turn hN, mF_turn hF h0 h2, rfl⟩
  · have hL := hnet k c3
    have hc := h0 k c3
    rw [if_neg (by omega), if_neg (by omega)] at hc
    refine gm_aload_n g dX2_turn_10 rfl ?_
    refine ob_geta G 0 rfl q173 dX2_turn_11 ?_
    refine gm_iload_n g dX2_turn_14 rfl ?_
    refine ob_iald (v := nI (lo k)) G 0 rfl dX2_turn_15 (by omega) (hc.1) ?_
    refine gm_istore_n (lv' := [.ref (ob_h X), .int (nI k), .int (nI (lo k))]) g dX2_turn_16 rfl rfl ?_
    refine gm_aload_n g dX2_turn_17 rfl ?_
    refine ob_geta G 0 rfl q173 dX2_turn_18 ?_
    refine gm_iload_n g dX2_turn_21 rfl ?_
    refine gm_aload_n g dX2_turn_22 rfl ?_
    refine ob_getn G q171 dX2_turn_23 ?_
    refine gm_iconst (v := nI 1) g dX2_turn_26 (by decide) ?_
    refine gN_isub g dX2_turn_27 (by omega) ?_
    refine gm_aload_n g dX2_turn_28 rfl ?_
    refine ob_geta G 1 rfl q174 dX2_turn_29 ?_
    refine gm_iload_n g dX2_turn_32 rfl ?_
    refine ob_iald (v := nI (hi k)) G 1 rfl dX2_turn_33 (by omega) (hc.2) ?_
    refine gN_isub g dX2_turn_34 (by omega) ?_
    refine ob_iast G 0 rfl dX2_turn_35 (by omega) ?_
    generalize hF1 : va_up F' 0 (upd (F' 0) k (nI ((N - 1) - (hi k)))) = F1
    refine gm_aload_n g dX2_turn_36 rfl ?_
    refine ob_geta G 1 rfl q174 dX2_turn_37 ?_
    refine gm_iload_n g dX2_turn_40 rfl ?_
    refine gm_aload_n g dX2_turn_41 rfl ?_
    refine ob_getn G q171 dX2_turn_42 ?_
    refine gm_iconst (v := nI 1) g dX2_turn_45 (by decide) ?_
    refine gN_isub g dX2_turn_46 (by omega) ?_
    refine gm_iload_n g dX2_turn_47 rfl ?_
    refine gN_isub g dX2_turn_48 (by omega) ?_
    refine ob_iast G 1 rfl dX2_turn_49 (by omega) ?_
    generalize hF2 : va_up F1 1 (upd (F1 1) k (nI ((N - 1) - (lo k)))) = F2
    refine gN_iinc (lv' := [.ref (ob_h X), .int (nI (k + 1)), .int (nI (lo k))]) g dX2_turn_50 rfl rfl rfl ?_
    refine gm_goto g 2 dX2_turn_53 (by decide) ?_
    exact gm_take 2 rfl (ih c3 F2 ⟨by rw [up_n hF2 (by decide), up_n hF1 (by decide)]; exact h2, tn_step h0 hF1 hF2⟩)
set_option maxHeartbeats 4000000 in
theorem m_size (n c : Int32) (F : Nat → Nat → Int32) : ob_Met K2 yX2_size cX2_size 1 (some .int) 0 0 [] (n, c, F) (fun r S' => S' = (n, c, F) ∧ r = c) := by
  refine ob_intro C2 rfl rfl (Nat.le_of_ble_eq_true rfl) ?_
  intro E X G ret
  have g := G.1
  refine gm_aload_n g dX2_size_0 rfl ?_
  refine ob_getc G q172 dX2_size_1 ?_
  exact ret _ _ _ _ dX2_size_4 rfl ⟨rfl, rfl⟩
set_option maxHeartbeats 4000000 in
theorem m_input {N C : Nat} {lo hi : Nat → Nat} {gv : Nat → Int32} {F : Nat → Nat → Int32} (hN : ok_net N C lo hi) (hF : mF F N C lo hi gv) (w v : Int32) : ob_Met K2 yX2_input cX2_input 3 (some .int) 1 21 [.int w, .int v] (nI N, nI C, F) (fun r S' => ∃ F' : Nat → Nat → Int32, S' = (nI N, nI C, F') ∧ (bw (nI N) w ≠ 0 ∧ r = -1 ∧ mF F' N C lo hi gv ∨ bw (nI N) w = 0 ∧ r = nI 0 ∧ mF F' N C lo hi (upd gv w.toNatClampNeg v))) := by
  refine ob_intro C2 rfl rfl (Nat.le_of_ble_eq_true rfl) ?_
  intro E X G ret
  have g := G.1
  obtain ⟨hN2, hN7, hC24, hnet⟩ := id hN
  obtain ⟨hFc, hFg⟩ := id hF
  refine gm_aload_n g dX2_input_0 rfl ?_
  refine gm_iload_n g dX2_input_1 rfl ?_
  refine ob_call (as := [.int w]) (rest := []) G (m_noWire (nI N) (nI C) F w) wX2_noWire rfl npX2_noWire rfl rfl rfl (Nat.le_of_ble_eq_true rfl) dX2_input_2 (fun r S' hp => ?_)
  obtain ⟨rfl, rfl⟩ := hp
  refine gN_if_eq g 10 dX2_input_5 (by decide) (bw_lt _ _) (fun c1 => ?_) (fun c1 => ?_)
  · obtain ⟨a, ha, ew⟩ := bw_in (by omega) c1
    subst ew
    refine gm_aload_n g dX2_input_10 rfl ?_
    refine ob_geta G 2 rfl q175 dX2_input_11 ?_
    refine gm_iload_n g dX2_input_14 rfl ?_
    refine gm_iload_n g dX2_input_15 rfl ?_
    refine ob_iast G 2 rfl dX2_input_16 (by omega) ?_
    generalize hF1 : va_up F 2 (upd (F 2) a v) = F1
    refine gm_iconst (v := nI 0) g dX2_input_17 (by decide) ?_
    exact ret _ _ _ _ dX2_input_18 rfl ⟨F1, rfl, Or.inr ⟨c1, rfl, by rw [nI_clamp (by omega)]; exact mF_input hF hF1⟩⟩
  · refine gm_iconst (v := -1) g dX2_input_8 (by decide) ?_
    exact ret _ _ _ _ dX2_input_9 rfl ⟨F, rfl, Or.inl ⟨c1, rfl, hF⟩⟩
set_option maxHeartbeats 4000000 in
theorem m_compare {N C : Nat} {lo hi : Nat → Nat} {gv : Nat → Int32} {F : Nat → Nat → Int32} (hN : ok_net N C lo hi) (hF : mF F N C lo hi gv) {k : Nat} (hk : k < C) (v : Nat → Int32) (hv : ∀ x, x < N → F 4 x = v x) : ob_Met K2 yX2_compare cX2_compare 5 (some .boolean) 0 0 [.int (nI k)] (nI N, nI C, F) (fun r S' => ∃ F' : Nat → Nat → Int32, S' = (nI N, nI C, F') ∧ (∀ j, j ≠ 4 → F' j = F j) ∧ (∀ x, x < N → F' 4 x = cmI (lo k) (hi k) v x) ∧ r = nI (decide (v (hi k) < v (lo k))).toNat) := by
  refine ob_intro C2 rfl rfl (Nat.le_of_ble_eq_true rfl) ?_
  intro E X G ret
  have g := G.1
  obtain ⟨hN2, hN7, hC24, hnet⟩ := id hN
  obtain ⟨hFc, hFg⟩ := id hF
  have hL := hnet k hk
  have hc := hFc k hk
  refine gm_aload_n g dX2_compare_0 rfl ?_
  refine ob_geta G 0 rfl q173 dX2_compare_1 ?_
  refine gm_iload_n g dX2_compare_4 rfl ?_
  refine ob_iald (v := nI (lo k)) G 0 rfl dX2_compare_5 (by omega) (hc.1) ?_
  refine gm_istore_n (lv' := [.ref (ob_h X), .int (nI k), .int (nI (lo k))]) g dX2_compare_6 rfl rfl ?_
  refine gm_aload_n g dX2_compare_7 rfl ?_
  refine ob_geta G 1 rfl q174 dX2_compare_8 ?_
  refine gm_iload_n g dX2_compare_11 rfl ?_
  refine ob_iald (v := nI (hi k)) G 1 rfl dX2_compare_12 (by omega) (hc.2) ?_
  refine gm_istore_n (lv' := [.ref (ob_h X), .int (nI k), .int (nI (lo k)), .int (nI (hi k))]) g dX2_compare_13 rfl rfl ?_
  refine gm_aload_n g dX2_compare_14 rfl ?_
  refine ob_geta G 4 rfl q177 dX2_compare_15 ?_
  refine gm_iload_n g dX2_compare_18 rfl ?_
  refine ob_iald (v := v (lo k)) G 4 rfl dX2_compare_19 (by omega) (hv _ hL.1) ?_
  refine gm_aload_n g dX2_compare_20 rfl ?_
  refine ob_geta G 4 rfl q177 dX2_compare_21 ?_
  refine gm_iload_n g dX2_compare_24 rfl ?_
  refine ob_iald (v := v (hi k)) G 4 rfl dX2_compare_25 (by omega) (hv _ hL.2.1) ?_
  refine gm_icmp_gt g 31 dX2_compare_26 (by decide) (fun c1 => ?_) (fun c1 => ?_)
  · refine gm_aload_n g dX2_compare_31 rfl ?_
    refine ob_geta G 4 rfl q177 dX2_compare_32 ?_
    refine gm_iload_n g dX2_compare_35 rfl ?_
    refine ob_iald (v := v (lo k)) G 4 rfl dX2_compare_36 (by omega) (hv _ hL.1) ?_
    refine gm_istore (lv' := [.ref (ob_h X), .int (nI k), .int (nI (lo k)), .int (nI (hi k)), .int (v (lo k))]) g dX2_compare_37 rfl rfl ?_
    refine gm_aload_n g dX2_compare_39 rfl ?_
    refine ob_geta G 4 rfl q177 dX2_compare_40 ?_
    refine gm_iload_n g dX2_compare_43 rfl ?_
    refine gm_aload_n g dX2_compare_44 rfl ?_
    refine ob_geta G 4 rfl q177 dX2_compare_45 ?_
    refine gm_iload_n g dX2_compare_48 rfl ?_
    refine ob_iald (v := v (hi k)) G 4 rfl dX2_compare_49 (by omega) (hv _ hL.2.1) ?_
    refine ob_iast G 4 rfl dX2_compare_50 (by omega) ?_
    generalize hF1 : va_up F 4 (upd (F 4) (lo k) (v (hi k))) = F1
    refine gm_aload_n g dX2_compare_51 rfl ?_
    refine ob_geta G 4 rfl q177 dX2_compare_52 ?_
    refine gm_iload_n g dX2_compare_55 rfl ?_
    refine gm_iload g dX2_compare_56 rfl ?_
    refine ob_iast G 4 rfl dX2_compare_58 (by omega) ?_
    generalize hF2 : va_up F1 4 (upd (F1 4) (hi k) (v (lo k))) = F2
    refine gm_iconst (v := nI 1) g dX2_compare_59 (by decide) ?_
    exact ret _ _ _ _ dX2_compare_60 rfl ⟨F2, rfl, fun j hj => by rw [up_n hF2 hj, up_n hF1 hj], by rw [up_s hF2, up_s hF1]; exact cm_t hL.1 hL.2.1 hv c1, by rw [decide_eq_true c1]; rfl⟩
  · refine gm_iconst (v := nI 0) g dX2_compare_29 (by decide) ?_
    exact ret _ _ _ _ dX2_compare_30 rfl ⟨F, rfl, fun j hj => rfl, cm_f hv c1, by rw [decide_eq_false c1]; rfl⟩
set_option maxHeartbeats 4000000 in
theorem m_output {N C : Nat} {lo hi : Nat → Nat} {gv : Nat → Int32} {F : Nat → Nat → Int32} (hN : ok_net N C lo hi) (hF : mF F N C lo hi gv) (w : Int32) : ob_Met K2 yX2_output cX2_output 3 (some .int) 1 24 [.int w] (nI N, nI C, F) (fun r S' => ∃ F' : Nat → Nat → Int32, S' = (nI N, nI C, F') ∧ mF F' N C lo hi gv ∧ r = if bw (nI N) w = 0 then wrun lo hi nsk C gv w.toNatClampNeg else nI 0) := by
  refine ob_intro C2 rfl rfl (Nat.le_of_ble_eq_true rfl) ?_
  intro E X G ret
  have g := G.1
  obtain ⟨hN2, hN7, hC24, hnet⟩ := id hN
  obtain ⟨hFc, hFg⟩ := id hF
  refine gm_aload_n g dX2_output_0 rfl ?_
  refine gm_iload_n g dX2_output_1 rfl ?_
  refine ob_call (as := [.int w]) (rest := []) G (m_noWire (nI N) (nI C) F w) wX2_noWire rfl npX2_noWire rfl rfl rfl (Nat.le_of_ble_eq_true rfl) dX2_output_2 (fun r S' hp => ?_)
  obtain ⟨rfl, rfl⟩ := hp
  refine gN_if_eq g 10 dX2_output_5 (by decide) (bw_lt _ _) (fun c1 => ?_) (fun c1 => ?_)
  · obtain ⟨a, ha, ew⟩ := bw_in (by omega) c1
    subst ew
    refine gm_iconst (v := nI 0) g dX2_output_10 (by decide) ?_
    refine gm_istore_n (lv' := [.ref (ob_h X), .int (nI a), .int (nI 0)]) g dX2_output_11 rfl rfl ?_
    refine lq1 (A := Nat → Nat → Int32) N (fun i F' => gm E 3 (ob_I K2 X (nI N, nI C, F')) [.ref (ob_h X), .int (nI a), .int (nI i)] 12 []) (fun i F' => mF F' N C lo hi gv ∧ ∀ x, x < i → F' 4 x = gv x) ?_ 0 F (Nat.zero_le _) ⟨hF, fun x hx => absurd hx (Nat.not_lt_zero x)⟩
    intro i F' hle hv ih
    obtain ⟨hF2, h3⟩ := hv
    refine gm_iload_n g dX2_output_12 rfl ?_
    refine gm_aload_n g dX2_output_13 rfl ?_
    refine ob_getn G q171 dX2_output_14 ?_
    refine gN_icmp_ge g 38 dX2_output_17 (by decide) (by omega) (by omega) (fun c3 => ?_) (fun c3 => ?_)
    · have e : i = N := by omega
      rw [e] at h3
      refine gm_iconst (v := nI 0) g dX2_output_38 (by decide) ?_
      refine gm_istore_n (lv' := [.ref (ob_h X), .int (nI a), .int (nI 0)]) g dX2_output_39 rfl rfl ?_
      refine lq1 (A := Nat → Nat → Int32) C (fun k F2 => gm E 3 (ob_I K2 X (nI N, nI C, F2)) [.ref (ob_h X), .int (nI a), .int (nI k)] 40 []) (fun k F2 => mF F2 N C lo hi gv ∧ ∀ x, x < N → F2 4 x = wrun lo hi nsk k gv x) ?_ 0 F' (Nat.zero_le _) ⟨hF2, h3⟩
      intro k F2 hk hv ih2
      obtain ⟨hF3, h4⟩ := hv
      refine gm_iload_n g dX2_output_40 rfl ?_
      refine gm_aload_n g dX2_output_41 rfl ?_
      refine ob_getc G q172 dX2_output_42 ?_
      refine gN_icmp_ge g 60 dX2_output_45 (by decide) (by omega) (by omega) (fun c4 => ?_) (fun c4 => ?_)
      · have e2 : k = C := by omega
        subst e2
        refine gm_aload_n g dX2_output_60 rfl ?_
        refine ob_geta G 4 rfl q177 dX2_output_61 ?_
        refine gm_iload_n g dX2_output_64 rfl ?_
        refine ob_iald (v := wrun lo hi nsk k gv a) G 4 rfl dX2_output_65 (by omega) (h4 a ha) ?_
        exact ret _ _ _ _ dX2_output_66 rfl ⟨F2, rfl, hF3, by rw [if_pos c1, nI_clamp (by omega)]⟩
      · refine gm_aload_n g dX2_output_48 rfl ?_
        refine gm_iload_n g dX2_output_49 rfl ?_
        refine ob_call (as := [.int (nI k)]) (rest := []) G (m_compare hN hF3 c4 _ h4) wX2_compare rfl npX2_compare rfl rfl rfl (Nat.le_of_ble_eq_true rfl) dX2_output_50 (fun r S' hp => ?_)
        obtain ⟨F3, rfl, hfr, h5, rfl⟩ := hp
        refine gm_pop g dX2_output_53 rfl ?_
        refine gN_iinc (lv' := [.ref (ob_h X), .int (nI a), .int (nI (k + 1))]) g dX2_output_54 rfl rfl rfl ?_
        refine gm_goto g 40 dX2_output_57 (by decide) ?_
        exact ih2 c4 F3 ⟨mF_fr (hfr 0 (by decide)) (hfr 1 (by decide)) (hfr 2 (by decide)) hF3, by rw [wrun_s]; exact h5⟩
    · refine gm_aload_n g dX2_output_20 rfl ?_
      refine ob_geta G 4 rfl q177 dX2_output_21 ?_
      refine gm_iload_n g dX2_output_24 rfl ?_
      refine gm_aload_n g dX2_output_25 rfl ?_
      refine ob_geta G 2 rfl q175 dX2_output_26 ?_
      refine gm_iload_n g dX2_output_29 rfl ?_
      refine ob_iald (v := gv i) G 2 rfl dX2_output_30 (by omega) (hF2.2 i c3) ?_
      refine ob_iast G 4 rfl dX2_output_31 (by omega) ?_
      generalize hF1 : va_up F' 4 (upd (F' 4) i (gv i)) = F1
      refine gN_iinc (lv' := [.ref (ob_h X), .int (nI a), .int (nI (i + 1))]) g dX2_output_32 rfl rfl rfl ?_
      refine gm_goto g 12 dX2_output_35 (by decide) ?_
      exact ih c3 F1 ⟨mF_fr (up_n hF1 (by decide)) (up_n hF1 (by decide)) (up_n hF1 (by decide)) hF2, fun x hx => by
        rw [up_s hF1]
        by_cases e : x = i
        · subst e; rw [upd_s]
        · rw [upd_n _ _ e]; exact h3 x (by omega)⟩
  · refine gm_iconst (v := nI 0) g dX2_output_8 (by decide) ?_
    exact ret _ _ _ _ dX2_output_9 rfl ⟨F, rfl, hF, by rw [if_neg c1]⟩
set_option maxHeartbeats 4000000 in
theorem m_exchanges {N C : Nat} {lo hi : Nat → Nat} {gv : Nat → Int32} {F : Nat → Nat → Int32} (hN : ok_net N C lo hi) (hF : mF F N C lo hi gv) : ob_Met K2 yX2_exchanges cX2_exchanges 4 (some .int) 1 24 [] (nI N, nI C, F) (fun r S' => ∃ F' : Nat → Nat → Int32, S' = (nI N, nI C, F') ∧ mF F' N C lo hi gv ∧ r = nI (xcnt lo hi C gv)) := by
  refine ob_intro C2 rfl rfl (Nat.le_of_ble_eq_true rfl) ?_
  intro E X G ret
  have g := G.1
  obtain ⟨hN2, hN7, hC24, hnet⟩ := id hN
  obtain ⟨hFc, hFg⟩ := id hF
  refine gm_iconst (v := nI 0) g dX2_exchanges_0 (by decide) ?_
  refine gm_istore_n (lv' := [.ref (ob_h X), .int (nI 0)]) g dX2_exchanges_1 rfl rfl ?_
  refine lq1 (A := Nat → Nat → Int32) N (fun i F' => gm E 4 (ob_I K2 X (nI N, nI C, F')) [.ref (ob_h X), .int (nI i)] 2 []) (fun i F' => mF F' N C lo hi gv ∧ ∀ x, x < i → F' 4 x = gv x) ?_ 0 F (Nat.zero_le _) ⟨hF, fun x hx => absurd hx (Nat.not_lt_zero x)⟩
  intro i F' hle hv ih
  obtain ⟨hF2, h3⟩ := hv
  refine gm_iload_n g dX2_exchanges_2 rfl ?_
  refine gm_aload_n g dX2_exchanges_3 rfl ?_
  refine ob_getn G q171 dX2_exchanges_4 ?_
  refine gN_icmp_ge g 28 dX2_exchanges_7 (by decide) (by omega) (by omega) (fun c3 => ?_) (fun c3 => ?_)
  · have e : i = N := by omega
    rw [e] at h3
    refine gm_iconst (v := nI 0) g dX2_exchanges_28 (by decide) ?_
    refine gm_istore_n (lv' := [.ref (ob_h X), .int (nI 0)]) g dX2_exchanges_29 rfl rfl ?_
    refine gm_iconst (v := nI 0) g dX2_exchanges_30 (by decide) ?_
    refine gm_istore_n (lv' := [.ref (ob_h X), .int (nI 0), .int (nI 0)]) g dX2_exchanges_31 rfl rfl ?_
    refine lq1 (A := Nat → Nat → Int32) C (fun k F2 => gm E 4 (ob_I K2 X (nI N, nI C, F2)) [.ref (ob_h X), .int (nI (xcnt lo hi k gv)), .int (nI k)] 32 []) (fun k F2 => mF F2 N C lo hi gv ∧ ∀ x, x < N → F2 4 x = wrun lo hi nsk k gv x) ?_ 0 F' (Nat.zero_le _) ⟨hF2, h3⟩
    intro k F2 hk hv ih2
    obtain ⟨hF3, h4⟩ := hv
    refine gm_iload_n g dX2_exchanges_32 rfl ?_
    refine gm_aload_n g dX2_exchanges_33 rfl ?_
    refine ob_getc G q172 dX2_exchanges_34 ?_
    refine gN_icmp_ge g 59 dX2_exchanges_37 (by decide) (by omega) (by omega) (fun c4 => ?_) (fun c4 => ?_)
    · have e2 : k = C := by omega
      subst e2
      refine gm_iload_n g dX2_exchanges_59 rfl ?_
      exact ret _ _ _ _ dX2_exchanges_60 rfl ⟨F2, rfl, hF3, rfl⟩
    · refine gm_aload_n g dX2_exchanges_40 rfl ?_
      refine gm_iload_n g dX2_exchanges_41 rfl ?_
      refine ob_call (as := [.int (nI k)]) (rest := []) G (m_compare hN hF3 c4 _ h4) wX2_compare rfl npX2_compare rfl rfl rfl (Nat.le_of_ble_eq_true rfl) dX2_exchanges_42 (fun r S' hp => ?_)
      obtain ⟨F3, rfl, hfr, h5, rfl⟩ := hp
      refine gm_istore_n (lv' := [.ref (ob_h X), .int (nI (xcnt lo hi k gv)), .int (nI k), .int (nI ((decide (wrun lo hi nsk k gv (hi k) < wrun lo hi nsk k gv (lo k))).toNat))]) g dX2_exchanges_45 rfl rfl ?_
      have tl : ∀ v : Nat, v = xcnt lo hi (k + 1) gv → gm E 4 (ob_I K2 X (nI N, nI C, F3)) [.ref (ob_h X), .int (nI v), .int (nI k)] 53 [] := by
        intro v hv
        subst hv
        refine gN_iinc (lv' := [.ref (ob_h X), .int (nI (xcnt lo hi (k + 1) gv)), .int (nI (k + 1))]) g dX2_exchanges_53 rfl rfl rfl ?_
        refine gm_goto g 32 dX2_exchanges_56 (by decide) ?_
        exact ih2 c4 F3 ⟨mF_fr (hfr 0 (by decide)) (hfr 1 (by decide)) (hfr 2 (by decide)) hF3, by rw [wrun_s]; exact h5⟩
      refine gm_iload_n g dX2_exchanges_46 rfl ?_
      refine gN_if_eq g 53 dX2_exchanges_47 (by decide) (bt_lt _) (fun c5 => ?_) (fun c5 => ?_)
      · refine gm_take 3 rfl ?_
        exact tl _ (by show _ = xcnt lo hi k gv + _; rw [if_neg (fun h => by rw [decide_eq_true h] at c5; cases c5)]; rfl)
      · have hlt : wrun lo hi nsk k gv (hi k) < wrun lo hi nsk k gv (lo k) := by
          by_cases h : wrun lo hi nsk k gv (hi k) < wrun lo hi nsk k gv (lo k)
          · exact h
          · rw [decide_eq_false h] at c5; exact absurd rfl c5
        refine gN_iinc (lv' := [.ref (ob_h X), .int (nI ((xcnt lo hi k gv) + 1)), .int (nI k), .int (nI ((decide (wrun lo hi nsk k gv (hi k) < wrun lo hi nsk k gv (lo k))).toNat))]) g dX2_exchanges_50 rfl rfl rfl ?_
        refine gm_take 3 rfl ?_
        exact tl _ (by show _ = xcnt lo hi k gv + _; rw [if_pos hlt])
  · refine gm_aload_n g dX2_exchanges_10 rfl ?_
    refine ob_geta G 4 rfl q177 dX2_exchanges_11 ?_
    refine gm_iload_n g dX2_exchanges_14 rfl ?_
    refine gm_aload_n g dX2_exchanges_15 rfl ?_
    refine ob_geta G 2 rfl q175 dX2_exchanges_16 ?_
    refine gm_iload_n g dX2_exchanges_19 rfl ?_
    refine ob_iald (v := gv i) G 2 rfl dX2_exchanges_20 (by omega) (hF2.2 i c3) ?_
    refine ob_iast G 4 rfl dX2_exchanges_21 (by omega) ?_
    generalize hF1 : va_up F' 4 (upd (F' 4) i (gv i)) = F1
    refine gN_iinc (lv' := [.ref (ob_h X), .int (nI (i + 1))]) g dX2_exchanges_22 rfl rfl rfl ?_
    refine gm_goto g 2 dX2_exchanges_25 (by decide) ?_
    exact ih c3 F1 ⟨mF_fr (up_n hF1 (by decide)) (up_n hF1 (by decide)) (up_n hF1 (by decide)) hF2, fun x hx => by
      rw [up_s hF1]
      by_cases e : x = i
      · subst e; rw [upd_s]
      · rw [upd_n _ _ e]; exact h3 x (by omega)⟩
set_option maxHeartbeats 4000000 in
theorem m_rounds {N C : Nat} {lo hi : Nat → Nat} {gv : Nat → Int32} {F : Nat → Nat → Int32} (hN : ok_net N C lo hi) (hF : mF F N C lo hi gv) : ob_Met K2 yX2_rounds cX2_rounds 6 (some .int) 0 0 [] (nI N, nI C, F) (fun r S' => ∃ F' : Nat → Nat → Int32, S' = (nI N, nI C, F') ∧ mF F' N C lo hi gv ∧ r = nI (rdm lo hi C)) := by
  refine ob_intro C2 rfl rfl (Nat.le_of_ble_eq_true rfl) ?_
  intro E X G ret
  have g := G.1
  obtain ⟨hN2, hN7, hC24, hnet⟩ := id hN
  obtain ⟨hFc, hFg⟩ := id hF
  refine gm_iconst (v := nI 0) g dX2_rounds_0 (by decide) ?_
  refine gm_istore_n (lv' := [.ref (ob_h X), .int (nI 0)]) g dX2_rounds_1 rfl rfl ?_
  refine lq1 (A := Nat → Nat → Int32) N (fun i F' => gm E 6 (ob_I K2 X (nI N, nI C, F')) [.ref (ob_h X), .int (nI i)] 2 []) (fun i F' => mF F' N C lo hi gv ∧ ∀ x, x < i → F' 6 x = nI 0) ?_ 0 F (Nat.zero_le _) ⟨hF, fun x hx => absurd hx (Nat.not_lt_zero x)⟩
  intro i F' hle hv ih
  obtain ⟨hF2, h3⟩ := hv
  refine gm_iload_n g dX2_rounds_2 rfl ?_
  refine gm_aload_n g dX2_rounds_3 rfl ?_
  refine ob_getn G q171 dX2_rounds_4 ?_
  refine gN_icmp_ge g 23 dX2_rounds_7 (by decide) (by omega) (by omega) (fun c3 => ?_) (fun c3 => ?_)
  · have e : i = N := by omega
    rw [e] at h3
    refine gm_iconst (v := nI 0) g dX2_rounds_23 (by decide) ?_
    refine gm_istore_n (lv' := [.ref (ob_h X), .int (nI 0)]) g dX2_rounds_24 rfl rfl ?_
    refine gm_iconst (v := nI 0) g dX2_rounds_25 (by decide) ?_
    refine gm_istore_n (lv' := [.ref (ob_h X), .int (nI 0), .int (nI 0)]) g dX2_rounds_26 rfl rfl ?_
    refine lq1 (A := Nat → Nat → Int32) C (fun k F2 => gm E 6 (ob_I K2 X (nI N, nI C, F2)) [.ref (ob_h X), .int (nI (rdm lo hi k)), .int (nI k)] 27 []) (fun k F2 => mF F2 N C lo hi gv ∧ ∀ x, x < N → F2 6 x = nI (rdl lo hi k x)) ?_ 0 F' (Nat.zero_le _) ⟨hF2, h3⟩
    intro k F2 hk hv ih2
    obtain ⟨hF3, h4⟩ := hv
    refine gm_iload_n g dX2_rounds_27 rfl ?_
    refine gm_aload_n g dX2_rounds_28 rfl ?_
    refine ob_getc G q172 dX2_rounds_29 ?_
    refine gN_icmp_ge g 120 dX2_rounds_32 (by decide) (by omega) (by omega) (fun c4 => ?_) (fun c4 => ?_)
    · have e2 : k = C := by omega
      subst e2
      refine gm_iload_n g dX2_rounds_120 rfl ?_
      exact ret _ _ _ _ dX2_rounds_121 rfl ⟨F2, rfl, hF3, rfl⟩
    · have hL := hnet k c4
      have hc := hF3.1 k c4
      have hm := rdm_le lo hi k
      have hl := rdl_le lo hi k (lo k)
      have hh := rdl_le lo hi k (hi k)
      have hx := rdx_le lo hi k
      refine gm_aload_n g dX2_rounds_35 rfl ?_
      refine ob_geta G 0 rfl q173 dX2_rounds_36 ?_
      refine gm_iload_n g dX2_rounds_39 rfl ?_
      refine ob_iald (v := nI (lo k)) G 0 rfl dX2_rounds_40 (by omega) (hc.1) ?_
      refine gm_istore_n (lv' := [.ref (ob_h X), .int (nI (rdm lo hi k)), .int (nI k), .int (nI (lo k))]) g dX2_rounds_41 rfl rfl ?_
      refine gm_aload_n g dX2_rounds_42 rfl ?_
      refine ob_geta G 1 rfl q174 dX2_rounds_43 ?_
      refine gm_iload_n g dX2_rounds_46 rfl ?_
      refine ob_iald (v := nI (hi k)) G 1 rfl dX2_rounds_47 (by omega) (hc.2) ?_
      refine gm_istore (lv' := [.ref (ob_h X), .int (nI (rdm lo hi k)), .int (nI k), .int (nI (lo k)), .int (nI (hi k))]) g dX2_rounds_48 rfl rfl ?_
      have tl : ∀ v : Nat, v = rdx lo hi k → gm E 6 (ob_I K2 X (nI N, nI C, F2)) [.ref (ob_h X), .int (nI (rdm lo hi k)), .int (nI k), .int (nI (lo k)), .int (nI (hi k))] 86 [.int (nI (v + 1))] := by
        intro v hv
        subst hv
        refine gm_istore (lv' := [.ref (ob_h X), .int (nI (rdm lo hi k)), .int (nI k), .int (nI (lo k)), .int (nI (hi k)), .int (nI (rdx lo hi k + 1))]) g dX2_rounds_86 rfl rfl ?_
        refine gm_aload_n g dX2_rounds_88 rfl ?_
        refine ob_geta G 6 rfl q179 dX2_rounds_89 ?_
        refine gm_iload_n g dX2_rounds_92 rfl ?_
        refine gm_iload g dX2_rounds_93 rfl ?_
        refine ob_iast G 6 rfl dX2_rounds_95 (by omega) ?_
        generalize hFa : va_up F2 6 (upd (F2 6) (lo k) (nI (rdx lo hi k + 1))) = Fa
        refine gm_aload_n g dX2_rounds_96 rfl ?_
        refine ob_geta G 6 rfl q179 dX2_rounds_97 ?_
        refine gm_iload g dX2_rounds_100 rfl ?_
        refine gm_iload g dX2_rounds_102 rfl ?_
        refine ob_iast G 6 rfl dX2_rounds_104 (by omega) ?_
        generalize hFb : va_up Fa 6 (upd (Fa 6) (hi k) (nI (rdx lo hi k + 1))) = Fb
        refine gm_iload g dX2_rounds_105 rfl ?_
        refine gm_iload_n g dX2_rounds_107 rfl ?_
        have fin : ∀ v : Nat, v = rdm lo hi (k + 1) → gm E 6 (ob_I K2 X (nI N, nI C, Fb)) [.ref (ob_h X), .int (nI v), .int (nI k)] 114 [] := by
          intro v hv
          subst hv
          refine gN_iinc (lv' := [.ref (ob_h X), .int (nI (rdm lo hi (k + 1))), .int (nI (k + 1))]) g dX2_rounds_114 rfl rfl rfl ?_
          refine gm_goto g 27 dX2_rounds_117 (by decide) ?_
          exact ih2 c4 Fb ⟨mF_fr (by rw [up_n hFb (by decide), up_n hFa (by decide)]) (by rw [up_n hFb (by decide), up_n hFa (by decide)]) (by rw [up_n hFb (by decide), up_n hFa (by decide)]) hF3, by rw [up_s hFb, up_s hFa]; exact rd_step h4⟩
        refine gN_icmp_le g 114 dX2_rounds_108 (by decide) (by omega) (by omega) (fun c6 => ?_) (fun c6 => ?_)
        · refine gm_take 3 rfl ?_
          exact fin _ (by rw [rdm_s, if_neg (by omega)])
        · refine gm_iload g dX2_rounds_111 rfl ?_
          refine gm_istore_n (lv' := [.ref (ob_h X), .int (nI (rdx lo hi k + 1)), .int (nI k), .int (nI (lo k)), .int (nI (hi k)), .int (nI (rdx lo hi k + 1))]) g dX2_rounds_113 rfl rfl ?_
          refine gm_take 3 rfl ?_
          exact fin _ (by rw [rdm_s, if_pos (by omega)])
      refine gm_aload_n g dX2_rounds_50 rfl ?_
      refine ob_geta G 6 rfl q179 dX2_rounds_51 ?_
      refine gm_iload_n g dX2_rounds_54 rfl ?_
      refine ob_iald (v := nI (rdl lo hi k (lo k))) G 6 rfl dX2_rounds_55 (by omega) (h4 _ hL.1) ?_
      refine gm_aload_n g dX2_rounds_56 rfl ?_
      refine ob_geta G 6 rfl q179 dX2_rounds_57 ?_
      refine gm_iload g dX2_rounds_60 rfl ?_
      refine ob_iald (v := nI (rdl lo hi k (hi k))) G 6 rfl dX2_rounds_62 (by omega) (h4 _ hL.2.1) ?_
      refine gN_icmp_le g 77 dX2_rounds_63 (by decide) (by omega) (by omega) (fun c5 => ?_) (fun c5 => ?_)
      · refine gm_aload_n g dX2_rounds_77 rfl ?_
        refine ob_geta G 6 rfl q179 dX2_rounds_78 ?_
        refine gm_iload g dX2_rounds_81 rfl ?_
        refine ob_iald (v := nI (rdl lo hi k (hi k))) G 6 rfl dX2_rounds_83 (by omega) (h4 _ hL.2.1) ?_
        refine gm_iconst (v := nI 1) g dX2_rounds_84 (by decide) ?_
        refine gN_iadd g dX2_rounds_85 ?_
        exact tl _ (by unfold rdx; rw [if_neg (by omega)])
      · refine gm_aload_n g dX2_rounds_66 rfl ?_
        refine ob_geta G 6 rfl q179 dX2_rounds_67 ?_
        refine gm_iload_n g dX2_rounds_70 rfl ?_
        refine ob_iald (v := nI (rdl lo hi k (lo k))) G 6 rfl dX2_rounds_71 (by omega) (h4 _ hL.1) ?_
        refine gm_iconst (v := nI 1) g dX2_rounds_72 (by decide) ?_
        refine gN_iadd g dX2_rounds_73 ?_
        refine gm_goto g 86 dX2_rounds_74 (by decide) ?_
        exact tl _ (by unfold rdx; rw [if_pos (by omega)])
  · refine gm_aload_n g dX2_rounds_10 rfl ?_
    refine ob_geta G 6 rfl q179 dX2_rounds_11 ?_
    refine gm_iload_n g dX2_rounds_14 rfl ?_
    refine gm_iconst (v := nI 0) g dX2_rounds_15 (by decide) ?_
    refine ob_iast G 6 rfl dX2_rounds_16 (by omega) ?_
    generalize hF1 : va_up F' 6 (upd (F' 6) i (nI 0)) = F1
    refine gN_iinc (lv' := [.ref (ob_h X), .int (nI (i + 1))]) g dX2_rounds_17 rfl rfl rfl ?_
    refine gm_goto g 2 dX2_rounds_20 (by decide) ?_
    exact ih c3 F1 ⟨mF_fr (up_n hF1 (by decide)) (up_n hF1 (by decide)) (up_n hF1 (by decide)) hF2, fun x hx => by
      rw [up_s hF1]
      by_cases e : x = i
      · subst e; rw [upd_s]
      · rw [upd_n _ _ e]; exact h3 x (by omega)⟩
end
section
/-! plain words of the model: all orders -/
set_option maxRecDepth 100000
def ord0 (N : Nat) : List Nat := (List.range N).map (fun x => x + 1)
theorem ord0_len (N : Nat) : (ord0 N).length = N := by unfold ord0; rw [List.length_map, List.length_range]
theorem ord0_get {N x : Nat} (h : x < N) : (ord0 N).getD x 0 = x + 1 := by
  unfold ord0
  rw [List.getD_eq_getElem?_getD, List.getElem?_map, List.getElem?_range h]
  rfl
theorem ord0_ok {N : Nat} (hN : N ≤ 7) : okp N (ord0 N) := by
  refine ⟨ord0_len N, fun x => ?_⟩
  by_cases h : x < N
  · rw [ord0_get h]; omega
  · rw [List.getD_eq_getElem?_getD, List.getElem?_eq_none (by rw [ord0_len]; omega)]; decide
def cnl (q : List Nat → Bool) : List (List Nat) → Nat
  | [] => 0
  | p :: l => (q p).toNat + cnl q l
theorem cnl_le (q : List Nat → Bool) : ∀ l, cnl q l ≤ l.length := by
  intro l
  induction l with
  | nil => exact Nat.le_refl 0
  | cons p l ih =>
    show (q p).toNat + cnl q l ≤ l.length + 1
    have : (q p).toNat ≤ 1 := Bool.toNat_le (q p)
    omega
def VV (N : Nat) : List (List Nat) := vis N 5041 (ord0 N)
theorem cnl_VV (q : List Nat → Bool) (N : Nat) : cnl q (VV N) < 2147483648 := by
  have h1 := cnl_le q (VV N)
  have h2 := vis_len N 5041 (ord0 N)
  unfold VV at h1 ⊢
  omega
theorem vis_t {N f : Nat} {p : List Nat} (h : (nxt N p).1 = true) : vis N (f + 1) p = p :: vis N f (nxt N p).2 := by
  show p :: _ = _
  rw [if_pos h]
theorem vis_f {N f : Nat} {p : List Nat} (h : (nxt N p).1 = false) : vis N (f + 1) p = [p] := by
  show p :: _ = _
  rw [if_neg (by rw [h]; decide)]
theorem vend_t {N f : Nat} {p : List Nat} (h : (nxt N p).1 = true) (e : vend N (f + 1) p = true) : vend N f (nxt N p).2 = true := by
  have e2 : (if (nxt N p).1 = true then vend N f (nxt N p).2 else true) = true := e
  rw [if_pos h] at e2
  exact e2
theorem fac_lt : ∀ n, n < 8 → fac n < 2147483648 := by decide
theorem orF_v {F : Nat → Nat → Int32} {N : Nat} {p : List Nat} (h : orF F p) (hp : okp N p) : ∀ x, x < N → F 3 x = pv p x := fun x hx => h x (by rw [hp.1]; exact hx)
theorem orF_fr {F F' : Nat → Nat → Int32} {p : List Nat} (h : orF F p) (e : F' 3 = F 3) : orF F' p := fun x hx => by rw [e]; exact h x hx
theorem allq_t {f : Nat → Bool} : ∀ n, (∀ x, x < n → f x = true) → allq f n = true := by
  intro n
  induction n with
  | zero => intro _; rfl
  | succ n ih => intro h; exact allq_s (ih (fun x hx => h x (by omega))) (h n (by omega))
def smb (N C : Nat) (lo hi : Nat → Nat) (k : Nat) (p : List Nat) : Bool := allq (fun x => wrun lo hi nsk C (pv p) x == wrun lo hi (skp k) C (pv p) x) N
def alv (q : List Nat → Bool) : List (List Nat) → Bool
  | [] => true
  | p :: l => q p && alv q l
def dnb (lo hi : Nat → Nat) (v : Nat → Int32) : Nat → Nat
  | 0 => 0
  | m + 1 => (decide (wrun lo hi nsk m v (hi m) < wrun lo hi nsk m v (lo m))).toNat
theorem dnb_le (lo hi : Nat → Nat) (v : Nat → Int32) : ∀ m, dnb lo hi v m < 2147483648 := by
  intro m
  cases m with
  | zero => show 0 < 2147483648; decide
  | succ m => exact bt_lt _
end
section
set_option maxRecDepth 100000
set_option maxHeartbeats 4000000 in
theorem m_firstOrder {N : Nat} (c : Int32) (F : Nat → Nat → Int32) (hN7 : N ≤ 7) : ob_MetV K2 yX2_firstOrder cX2_firstOrder 2 0 0 [] (nI N, c, F) (fun S' => ∃ F' : Nat → Nat → Int32, S' = (nI N, c, F') ∧ (∀ j, j ≠ 3 → F' j = F j) ∧ orF F' (ord0 N)) := by
  refine ob_introV C2 rfl rfl (Nat.le_of_ble_eq_true rfl) ?_
  intro E X G ret
  have g := G.1
  refine gm_iconst (v := nI 0) g dX2_firstOrder_0 (by decide) ?_
  refine gm_istore_n (lv' := [.ref (ob_h X), .int (nI 0)]) g dX2_firstOrder_1 rfl rfl ?_
  refine lq1 (A := Nat → Nat → Int32) N (fun i F' => gm E 2 (ob_I K2 X (nI N, c, F')) [.ref (ob_h X), .int (nI i)] 2 []) (fun i F' => (∀ j, j ≠ 3 → F' j = F j) ∧ ∀ x, x < i → F' 3 x = nI (x + 1)) ?_ 0 F (Nat.zero_le _) ⟨fun _ _ => rfl, fun x hx => absurd hx (Nat.not_lt_zero x)⟩
  intro i F' hle hv ih
  obtain ⟨hfr, h3⟩ := hv
  refine gm_iload_n g dX2_firstOrder_2 rfl ?_
  refine gm_aload_n g dX2_firstOrder_3 rfl ?_
  refine ob_getn G q171 dX2_firstOrder_4 ?_
  refine gN_icmp_ge g 25 dX2_firstOrder_7 (by decide) (by omega) (by omega) (fun c3 => ?_) (fun c3 => ?_)
  · have e : i = N := by omega
    subst e
    exact ret _ _ _ dX2_firstOrder_25 ⟨F', rfl, hfr, fun x hx => by
      rw [ord0_len] at hx
      unfold pv
      rw [ord0_get hx]
      exact h3 x hx⟩
  · refine gm_aload_n g dX2_firstOrder_10 rfl ?_
    refine ob_geta G 3 rfl q176 dX2_firstOrder_11 ?_
    refine gm_iload_n g dX2_firstOrder_14 rfl ?_
    refine gm_iload_n g dX2_firstOrder_15 rfl ?_
    refine gm_iconst (v := nI 1) g dX2_firstOrder_16 (by decide) ?_
    refine gN_iadd g dX2_firstOrder_17 ?_
    refine ob_iast G 3 rfl dX2_firstOrder_18 (by omega) ?_
    generalize hF1 : va_up F' 3 (upd (F' 3) i (nI (i + 1))) = F1
    refine gN_iinc (lv' := [.ref (ob_h X), .int (nI (i + 1))]) g dX2_firstOrder_19 rfl rfl rfl ?_
    refine gm_goto g 2 dX2_firstOrder_22 (by decide) ?_
    exact ih c3 F1 ⟨fun j hj => by rw [up_n hF1 hj]; exact hfr j hj, fun x hx => by
      rw [up_s hF1]
      by_cases e : x = i
      · subst e; rw [upd_s]
      · rw [upd_n _ _ e]; exact h3 x (by omega)⟩
set_option maxHeartbeats 4000000 in
theorem m_nextOrder {N : Nat} (c : Int32) {F : Nat → Nat → Int32} {p : List Nat} (hN2 : 2 ≤ N) (hN7 : N ≤ 7) (hp : okp N p) (ho : orF F p) : ob_Met K2 yX2_nextOrder cX2_nextOrder 6 (some .boolean) 0 0 [] (nI N, c, F) (fun r S' => ∃ F' : Nat → Nat → Int32, S' = (nI N, c, F') ∧ (∀ j, j ≠ 3 → F' j = F j) ∧ orF F' (nxt N p).2 ∧ r = nI (nxt N p).1.toNat) := by
  refine ob_intro C2 rfl rfl (Nat.le_of_ble_eq_true rfl) ?_
  intro E X G ret
  have g := G.1
  have hv := orF_v ho hp
  have hpb := hp.2
  have hft := fat_le p (N - 1)
  have mid : gm E 6 (ob_I K2 X (nI N, c, F)) [.ref (ob_h X), .int (atv (fat p (N - 1)))] 34 [] := by
    by_cases h0 : fat p (N - 1) = 0
    · rw [h0, atv_0]
      refine gm_iload_n g dX2_nextOrder_34 rfl ?_
      refine gm_if_ge g 40 dX2_nextOrder_35 (by decide) (fun c1 => ?_) (fun c1 => ?_)
      · exact absurd c1 (by decide)
      · refine gm_iconst (v := nI 0) g dX2_nextOrder_38 (by decide) ?_
        exact ret _ _ _ _ dX2_nextOrder_39 rfl ⟨F, rfl, fun j hj => rfl, by unfold nxt; rw [if_pos h0]; exact ho, by unfold nxt; rw [if_pos h0]; rfl⟩
    · obtain ⟨a, hae⟩ : ∃ a, fat p (N - 1) = a + 1 := ⟨fat p (N - 1) - 1, by omega⟩
      rw [hae, atv_s]
      have hto := fto_in p a (N - 1) (by omega)
      have hnx : nxt N p = (true, rvl N a N 1 (swp p a (fto p a (N - 1)))) := by unfold nxt; rw [if_neg h0, hae]; rfl
      generalize hte : fto p a (N - 1) = b at hto hnx
      refine gm_iload_n g dX2_nextOrder_34 rfl ?_
      refine gm_if_ge g 40 dX2_nextOrder_35 (by decide) (fun c1 => ?_) (fun c1 => ?_)
      · have m2 : gm E 6 (ob_I K2 X (nI N, c, F)) [.ref (ob_h X), .int (nI a), .int (nI b)] 68 [] := by
          refine gm_aload_n g dX2_nextOrder_68 rfl ?_
          refine ob_geta G 3 rfl q176 dX2_nextOrder_69 ?_
          refine gm_iload_n g dX2_nextOrder_72 rfl ?_
          refine ob_iald (v := nI (p.getD a 0)) G 3 rfl dX2_nextOrder_73 (by omega) (hv a (by omega)) ?_
          refine gm_istore_n (lv' := [.ref (ob_h X), .int (nI a), .int (nI b), .int (nI (p.getD a 0))]) g dX2_nextOrder_74 rfl rfl ?_
          refine gm_aload_n g dX2_nextOrder_75 rfl ?_
          refine ob_geta G 3 rfl q176 dX2_nextOrder_76 ?_
          refine gm_iload_n g dX2_nextOrder_79 rfl ?_
          refine gm_aload_n g dX2_nextOrder_80 rfl ?_
          refine ob_geta G 3 rfl q176 dX2_nextOrder_81 ?_
          refine gm_iload_n g dX2_nextOrder_84 rfl ?_
          refine ob_iald (v := nI (p.getD b 0)) G 3 rfl dX2_nextOrder_85 (by omega) (hv b (by omega)) ?_
          refine ob_iast G 3 rfl dX2_nextOrder_86 (by omega) ?_
          generalize hF1 : va_up F 3 (upd (F 3) a (nI (p.getD b 0))) = F1
          refine gm_aload_n g dX2_nextOrder_87 rfl ?_
          refine ob_geta G 3 rfl q176 dX2_nextOrder_88 ?_
          refine gm_iload_n g dX2_nextOrder_91 rfl ?_
          refine gm_iload_n g dX2_nextOrder_92 rfl ?_
          refine ob_iast G 3 rfl dX2_nextOrder_93 (by omega) ?_
          generalize hF2 : va_up F1 3 (upd (F1 3) b (nI (p.getD a 0))) = F2
          refine gm_iconst (v := nI 1) g dX2_nextOrder_94 (by decide) ?_
          refine gm_istore (lv' := [.ref (ob_h X), .int (nI a), .int (nI b), .int (nI (p.getD a 0)), .int (nI 1)]) g dX2_nextOrder_95 rfl rfl ?_
          have ho2 := orF_swp hp ho (show a < N by omega) (show b < N by omega) hF1 hF2
          have hp2 := swp_ok hp (show a < N by omega) (show b < N by omega)
          have hfr2 : ∀ j, j ≠ 3 → F2 j = F j := fun j hj => by rw [up_n hF2 hj, up_n hF1 hj]
          generalize swp p a b = p2 at ho2 hp2 hnx
          have rv : ∀ (f x : Nat) (p2 : List Nat) (F2 : Nat → Nat → Int32), 1 ≤ x → x ≤ N → N ≤ x + f → okp N p2 → orF F2 p2 → (∀ j, j ≠ 3 → F2 j = F j) → nxt N p = (true, rvl N a f x p2) → gm E 6 (ob_I K2 X (nI N, c, F2)) [.ref (ob_h X), .int (nI a), .int (nI b), .int (nI (p.getD a 0)), .int (nI x)] 97 [] := by
            intro f
            induction f with
            | zero =>
              intro x p2 F2 hx1 hxN hxf hp2 ho2 hfr2 hnx
              refine gm_iload_n g dX2_nextOrder_97 rfl ?_
              refine gm_iload g dX2_nextOrder_98 rfl ?_
              refine gN_iadd g dX2_nextOrder_100 ?_
              refine gm_aload_n g dX2_nextOrder_101 rfl ?_
              refine ob_getn G q171 dX2_nextOrder_102 ?_
              refine gm_iload g dX2_nextOrder_105 rfl ?_
              refine gN_isub g dX2_nextOrder_107 (by omega) ?_
              refine gN_icmp_ge g 163 dX2_nextOrder_108 (by decide) (by omega) (by omega) (fun c2 => ?_) (fun c2 => ?_)
              · refine gm_iconst (v := nI 1) g dX2_nextOrder_163 (by decide) ?_
                exact ret _ _ _ _ dX2_nextOrder_164 rfl ⟨F2, rfl, hfr2, by rw [hnx]; show orF F2 p2; exact ho2, by rw [hnx]; rfl⟩
              · omega
            | succ f ih =>
              intro x p2 F2 hx1 hxN hxf hp2 ho2 hfr2 hnx
              have hv2 := orF_v ho2 hp2
              refine gm_iload_n g dX2_nextOrder_97 rfl ?_
              refine gm_iload g dX2_nextOrder_98 rfl ?_
              refine gN_iadd g dX2_nextOrder_100 ?_
              refine gm_aload_n g dX2_nextOrder_101 rfl ?_
              refine ob_getn G q171 dX2_nextOrder_102 ?_
              refine gm_iload g dX2_nextOrder_105 rfl ?_
              refine gN_isub g dX2_nextOrder_107 (by omega) ?_
              refine gN_icmp_ge g 163 dX2_nextOrder_108 (by decide) (by omega) (by omega) (fun c2 => ?_) (fun c2 => ?_)
              · refine gm_iconst (v := nI 1) g dX2_nextOrder_163 (by decide) ?_
                exact ret _ _ _ _ dX2_nextOrder_164 rfl ⟨F2, rfl, hfr2, by rw [hnx]; show orF F2 (if a + x < N - x then _ else _); rw [if_neg (by omega)]; exact ho2, by rw [hnx]; rfl⟩
              · refine gm_aload_n g dX2_nextOrder_111 rfl ?_
                refine ob_geta G 3 rfl q176 dX2_nextOrder_112 ?_
                refine gm_iload_n g dX2_nextOrder_115 rfl ?_
                refine gm_iload g dX2_nextOrder_116 rfl ?_
                refine gN_iadd g dX2_nextOrder_118 ?_
                refine ob_iald (v := nI (p2.getD (a + x) 0)) G 3 rfl dX2_nextOrder_119 (by omega) (hv2 _ (by omega)) ?_
                refine gm_istore (lv' := [.ref (ob_h X), .int (nI a), .int (nI b), .int (nI (p.getD a 0)), .int (nI x), .int (nI (p2.getD (a + x) 0))]) g dX2_nextOrder_120 rfl rfl ?_
                refine gm_aload_n g dX2_nextOrder_122 rfl ?_
                refine ob_geta G 3 rfl q176 dX2_nextOrder_123 ?_
                refine gm_iload_n g dX2_nextOrder_126 rfl ?_
                refine gm_iload g dX2_nextOrder_127 rfl ?_
                refine gN_iadd g dX2_nextOrder_129 ?_
                refine gm_aload_n g dX2_nextOrder_130 rfl ?_
                refine ob_geta G 3 rfl q176 dX2_nextOrder_131 ?_
                refine gm_aload_n g dX2_nextOrder_134 rfl ?_
                refine ob_getn G q171 dX2_nextOrder_135 ?_
                refine gm_iload g dX2_nextOrder_138 rfl ?_
                refine gN_isub g dX2_nextOrder_140 (by omega) ?_
                refine ob_iald (v := nI (p2.getD (N - x) 0)) G 3 rfl dX2_nextOrder_141 (by omega) (hv2 _ (by omega)) ?_
                refine ob_iast G 3 rfl dX2_nextOrder_142 (by omega) ?_
                generalize hF3 : va_up F2 3 (upd (F2 3) (a + x) (nI (p2.getD (N - x) 0))) = F3
                refine gm_aload_n g dX2_nextOrder_143 rfl ?_
                refine ob_geta G 3 rfl q176 dX2_nextOrder_144 ?_
                refine gm_aload_n g dX2_nextOrder_147 rfl ?_
                refine ob_getn G q171 dX2_nextOrder_148 ?_
                refine gm_iload g dX2_nextOrder_151 rfl ?_
                refine gN_isub g dX2_nextOrder_153 (by omega) ?_
                refine gm_iload g dX2_nextOrder_154 rfl ?_
                refine ob_iast G 3 rfl dX2_nextOrder_156 (by omega) ?_
                generalize hF4 : va_up F3 3 (upd (F3 3) (N - x) (nI (p2.getD (a + x) 0))) = F4
                refine gN_iinc (lv' := [.ref (ob_h X), .int (nI a), .int (nI b), .int (nI (p.getD a 0)), .int (nI (x + 1)), .int (nI (p2.getD (a + x) 0))]) g dX2_nextOrder_157 rfl rfl rfl ?_
                refine gm_goto g 97 dX2_nextOrder_160 (by decide) ?_
                refine gm_take 5 rfl ?_
                exact ih (x + 1) _ F4 (by omega) (by omega) (by omega) (swp_ok hp2 (by omega) (by omega)) (orF_swp hp2 ho2 (show a + x < N by omega) (show N - x < N by omega) hF3 hF4) (fun j hj => by rw [up_n hF4 hj, up_n hF3 hj]; exact hfr2 j hj) (by rw [hnx]; show (true, if a + x < N - x then _ else _) = _; rw [if_pos c2])
          exact rv N 1 p2 F2 (Nat.le_refl 1) (by omega) (by omega) hp2 ho2 hfr2 hnx
        refine gm_aload_n g dX2_nextOrder_40 rfl ?_
        refine ob_getn G q171 dX2_nextOrder_41 ?_
        refine gm_iconst (v := nI 1) g dX2_nextOrder_44 (by decide) ?_
        refine gN_isub g dX2_nextOrder_45 (by omega) ?_
        refine gm_istore_n (lv' := [.ref (ob_h X), .int (nI a), .int (nI (N - 1))]) g dX2_nextOrder_46 rfl rfl ?_
        have lp2 : ∀ k, a ≤ k → k < N → fto p a k = b → gm E 6 (ob_I K2 X (nI N, c, F)) [.ref (ob_h X), .int (nI a), .int (nI k)] 47 [] := by
          intro k
          induction k with
          | zero =>
            intro h1 h2 h3
            have e0 : a = 0 := by omega
            subst e0
            refine gm_aload_n g dX2_nextOrder_47 rfl ?_
            refine ob_geta G 3 rfl q176 dX2_nextOrder_48 ?_
            refine gm_iload_n g dX2_nextOrder_51 rfl ?_
            refine ob_iald (v := nI (p.getD 0 0)) G 3 rfl dX2_nextOrder_52 (by omega) (hv 0 (by omega)) ?_
            refine gm_aload_n g dX2_nextOrder_53 rfl ?_
            refine ob_geta G 3 rfl q176 dX2_nextOrder_54 ?_
            refine gm_iload_n g dX2_nextOrder_57 rfl ?_
            refine ob_iald (v := nI (p.getD 0 0)) G 3 rfl dX2_nextOrder_58 (by omega) (hv 0 (by omega)) ?_
            refine gN_icmp_ge g 68 dX2_nextOrder_59 (by decide) (hpb _) (hpb _) (fun c3 => ?_) (fun c3 => ?_)
            · rw [← h3] at m2
              exact m2
            · omega
          | succ k ih =>
            intro h1 h2 h3
            have h4 : (if p.getD (k + 1) 0 < p.getD a 0 then fto p a k else k + 1) = b := h3
            refine gm_aload_n g dX2_nextOrder_47 rfl ?_
            refine ob_geta G 3 rfl q176 dX2_nextOrder_48 ?_
            refine gm_iload_n g dX2_nextOrder_51 rfl ?_
            refine ob_iald (v := nI (p.getD (k + 1) 0)) G 3 rfl dX2_nextOrder_52 (by omega) (hv _ h2) ?_
            refine gm_aload_n g dX2_nextOrder_53 rfl ?_
            refine ob_geta G 3 rfl q176 dX2_nextOrder_54 ?_
            refine gm_iload_n g dX2_nextOrder_57 rfl ?_
            refine ob_iald (v := nI (p.getD a 0)) G 3 rfl dX2_nextOrder_58 (by omega) (hv a (by omega)) ?_
            refine gN_icmp_ge g 68 dX2_nextOrder_59 (by decide) (hpb _) (hpb _) (fun c3 => ?_) (fun c3 => ?_)
            · rw [if_neg (by omega)] at h4
              rw [← h4] at m2
              exact m2
            · rw [if_pos c3] at h4
              have hne : a ≠ k + 1 := fun e => by rw [e] at c3; omega
              refine gm_iinc (v := nI k) (lv' := [.ref (ob_h X), .int (nI a), .int (nI k)]) g dX2_nextOrder_62 rfl (pk_m1 k) rfl rfl ?_
              refine gm_goto g 47 dX2_nextOrder_65 (by decide) ?_
              exact ih (by omega) (by omega) h4
        exact lp2 (N - 1) (by omega) (by omega) hte
      · exact absurd (nI_pos' (by omega)) c1
  refine gm_aload_n g dX2_nextOrder_0 rfl ?_
  refine ob_getn G q171 dX2_nextOrder_1 ?_
  refine gm_iconst (v := nI 2) g dX2_nextOrder_4 (by decide) ?_
  refine gN_isub g dX2_nextOrder_5 (by omega) ?_
  refine gm_eqi (y := atv (N - 1)) (by rw [show N - 1 = (N - 2) + 1 by omega, atv_s]) ?_
  refine gm_istore_n (lv' := [.ref (ob_h X), .int (atv (N - 1))]) g dX2_nextOrder_6 rfl rfl ?_
  have lp1 : ∀ k, k < N → fat p k = fat p (N - 1) → gm E 6 (ob_I K2 X (nI N, c, F)) [.ref (ob_h X), .int (atv k)] 7 [] := by
    intro k
    induction k with
    | zero =>
      intro h1 h2
      rw [atv_0]
      refine gm_iload_n g dX2_nextOrder_7 rfl ?_
      refine gm_if_lt g 34 dX2_nextOrder_8 (by decide) (fun c1 => ?_) (fun c1 => ?_)
      · rw [← h2] at mid
        exact mid
      · exact absurd (by decide) c1
    | succ k ih =>
      intro h1 h2
      rw [atv_s]
      have h4 : (if p.getD (k + 1) 0 < p.getD k 0 then fat p k else k + 1) = fat p (N - 1) := h2
      refine gm_iload_n g dX2_nextOrder_7 rfl ?_
      refine gN_if_lt g 34 dX2_nextOrder_8 (by decide) (by omega) ?_
      refine gm_aload_n g dX2_nextOrder_11 rfl ?_
      refine ob_geta G 3 rfl q176 dX2_nextOrder_12 ?_
      refine gm_iload_n g dX2_nextOrder_15 rfl ?_
      refine ob_iald (v := nI (p.getD k 0)) G 3 rfl dX2_nextOrder_16 (by omega) (hv _ (by omega)) ?_
      refine gm_aload_n g dX2_nextOrder_17 rfl ?_
      refine ob_geta G 3 rfl q176 dX2_nextOrder_18 ?_
      refine gm_iload_n g dX2_nextOrder_21 rfl ?_
      refine gm_iconst (v := nI 1) g dX2_nextOrder_22 (by decide) ?_
      refine gN_iadd g dX2_nextOrder_23 ?_
      refine ob_iald (v := nI (p.getD (k + 1) 0)) G 3 rfl dX2_nextOrder_24 (by omega) (hv _ (by omega)) ?_
      refine gN_icmp_le g 34 dX2_nextOrder_25 (by decide) (hpb _) (hpb _) (fun c2 => ?_) (fun c2 => ?_)
      · rw [if_neg (by omega)] at h4
        rw [← h4, atv_s] at mid
        exact mid
      · rw [if_pos c2] at h4
        refine gm_iinc (v := atv k) (lv' := [.ref (ob_h X), .int (atv k)]) g dX2_nextOrder_28 rfl (atv_d k) rfl rfl ?_
        refine gm_goto g 7 dX2_nextOrder_31 (by decide) ?_
        exact ih (by omega) h4
  exact lp1 (N - 1) (by omega) rfl
set_option maxHeartbeats 4000000 in
theorem m_pass {N C : Nat} {lo hi : Nat → Nat} {gv : Nat → Int32} {F : Nat → Nat → Int32} (hN : ok_net N C lo hi) (hF : mF F N C lo hi gv) (wo : Int32) (sk : Nat → Bool) (hsk : ∀ k, k < C → (nI k = wo ↔ sk k = true)) (v : Nat → Int32) (hv3 : ∀ x, x < N → F 3 x = v x) : ob_MetV K2 yX2_pass cX2_pass 3 1 24 [.int wo] (nI N, nI C, F) (fun S' => ∃ F' : Nat → Nat → Int32, S' = (nI N, nI C, F') ∧ (∀ j, j ≠ 4 → F' j = F j) ∧ ∀ x, x < N → F' 4 x = wrun lo hi sk C v x) := by
  refine ob_introV C2 rfl rfl (Nat.le_of_ble_eq_true rfl) ?_
  intro E X G ret
  have g := G.1
  obtain ⟨hN2, hN7, hC24, hnet⟩ := id hN
  obtain ⟨hFc, hFg⟩ := id hF
  refine gm_iconst (v := nI 0) g dX2_pass_0 (by decide) ?_
  refine gm_istore_n (lv' := [.ref (ob_h X), .int wo, .int (nI 0)]) g dX2_pass_1 rfl rfl ?_
  refine lq1 (A := Nat → Nat → Int32) N (fun i F' => gm E 3 (ob_I K2 X (nI N, nI C, F')) [.ref (ob_h X), .int wo, .int (nI i)] 2 []) (fun i F' => (∀ j, j ≠ 4 → F' j = F j) ∧ ∀ x, x < i → F' 4 x = v x) ?_ 0 F (Nat.zero_le _) ⟨fun _ _ => rfl, fun x hx => absurd hx (Nat.not_lt_zero x)⟩
  intro i F' hle hv ih
  obtain ⟨hfr, h4⟩ := hv
  refine gm_iload_n g dX2_pass_2 rfl ?_
  refine gm_aload_n g dX2_pass_3 rfl ?_
  refine ob_getn G q171 dX2_pass_4 ?_
  refine gN_icmp_ge g 28 dX2_pass_7 (by decide) (by omega) (by omega) (fun c3 => ?_) (fun c3 => ?_)
  · have e : i = N := by omega
    rw [e] at h4
    refine gm_iconst (v := nI 0) g dX2_pass_28 (by decide) ?_
    refine gm_istore_n (lv' := [.ref (ob_h X), .int wo, .int (nI 0)]) g dX2_pass_29 rfl rfl ?_
    refine lq1 (A := Nat → Nat → Int32) C (fun k F2 => gm E 3 (ob_I K2 X (nI N, nI C, F2)) [.ref (ob_h X), .int wo, .int (nI k)] 30 []) (fun k F2 => (∀ j, j ≠ 4 → F2 j = F j) ∧ ∀ x, x < N → F2 4 x = wrun lo hi sk k v x) ?_ 0 F' (Nat.zero_le _) ⟨hfr, h4⟩
    intro k F2 hk hv ih2
    obtain ⟨hfr2, h5⟩ := hv
    have hF2 : mF F2 N C lo hi gv := mF_fr (hfr2 0 (by decide)) (hfr2 1 (by decide)) (hfr2 2 (by decide)) hF
    refine gm_iload_n g dX2_pass_30 rfl ?_
    refine gm_aload_n g dX2_pass_31 rfl ?_
    refine ob_getc G q172 dX2_pass_32 ?_
    refine gN_icmp_ge g 55 dX2_pass_35 (by decide) (by omega) (by omega) (fun c4 => ?_) (fun c4 => ?_)
    · have e2 : k = C := by omega
      subst e2
      exact ret _ _ _ dX2_pass_55 ⟨F2, rfl, hfr2, h5⟩
    · refine gm_iload_n g dX2_pass_38 rfl ?_
      refine gm_iload_n g dX2_pass_39 rfl ?_
      refine gm_icmp_eq g 49 dX2_pass_40 (by decide) (fun c5 => ?_) (fun c5 => ?_)
      · refine gN_iinc (lv' := [.ref (ob_h X), .int wo, .int (nI (k + 1))]) g dX2_pass_49 rfl rfl rfl ?_
        refine gm_goto g 30 dX2_pass_52 (by decide) ?_
        exact ih2 c4 F2 ⟨hfr2, by rw [wrun_k, if_pos ((hsk k c4).mp c5)]; exact h5⟩
      · refine gm_aload_n g dX2_pass_43 rfl ?_
        refine gm_iload_n g dX2_pass_44 rfl ?_
        refine ob_call (as := [.int (nI k)]) (rest := []) G (m_compare hN hF2 c4 _ h5) wX2_compare rfl npX2_compare rfl rfl rfl (Nat.le_of_ble_eq_true rfl) dX2_pass_45 (fun r S' hp => ?_)
        obtain ⟨F3, rfl, hfr3, h6, rfl⟩ := hp
        refine gm_pop g dX2_pass_48 rfl ?_
        refine gN_iinc (lv' := [.ref (ob_h X), .int wo, .int (nI (k + 1))]) g dX2_pass_49 rfl rfl rfl ?_
        refine gm_goto g 30 dX2_pass_52 (by decide) ?_
        exact ih2 c4 F3 ⟨fun j hj => by rw [hfr3 j hj]; exact hfr2 j hj, by rw [wrun_k, if_neg (fun h => c5 ((hsk k c4).mpr h))]; exact h6⟩
  · refine gm_aload_n g dX2_pass_10 rfl ?_
    refine ob_geta G 4 rfl q177 dX2_pass_11 ?_
    refine gm_iload_n g dX2_pass_14 rfl ?_
    refine gm_aload_n g dX2_pass_15 rfl ?_
    refine ob_geta G 3 rfl q176 dX2_pass_16 ?_
    refine gm_iload_n g dX2_pass_19 rfl ?_
    refine ob_iald (v := v i) G 3 rfl dX2_pass_20 (by omega) (by rw [hfr 3 (by decide)]; exact hv3 i c3) ?_
    refine ob_iast G 4 rfl dX2_pass_21 (by omega) ?_
    generalize hF1 : va_up F' 4 (upd (F' 4) i (v i)) = F1
    refine gN_iinc (lv' := [.ref (ob_h X), .int wo, .int (nI (i + 1))]) g dX2_pass_22 rfl rfl rfl ?_
    refine gm_goto g 2 dX2_pass_25 (by decide) ?_
    exact ih c3 F1 ⟨fun j hj => by rw [up_n hF1 hj]; exact hfr j hj, fun x hx => by
      rw [up_s hF1]
      by_cases e : x = i
      · subst e; rw [upd_s]
      · rw [upd_n _ _ e]; exact h4 x (by omega)⟩
set_option maxHeartbeats 4000000 in
theorem m_all {N : Nat} (c : Int32) (F : Nat → Nat → Int32) (hN2 : 2 ≤ N) (hN7 : N ≤ 7) : ob_Met K2 yX2_all cX2_all 3 (some .int) 0 0 [] (nI N, c, F) (fun r S' => S' = (nI N, c, F) ∧ r = nI (fac N)) := by
  refine ob_intro C2 rfl rfl (Nat.le_of_ble_eq_true rfl) ?_
  intro E X G ret
  have g := G.1
  refine gm_iconst (v := nI 1) g dX2_all_0 (by decide) ?_
  refine gm_istore_n (lv' := [.ref (ob_h X), .int (nI 1)]) g dX2_all_1 rfl rfl ?_
  refine gm_iconst (v := nI 2) g dX2_all_2 (by decide) ?_
  refine gm_istore_n (lv' := [.ref (ob_h X), .int (nI 1), .int (nI 2)]) g dX2_all_3 rfl rfl ?_
  refine lq0 N (fun k => gm E 3 (ob_I K2 X (nI N, c, F)) [.ref (ob_h X), .int (nI (fac k)), .int (nI (k + 1))] 4 []) ?_ 1 (by omega)
  intro k hk ih
  refine gm_iload_n g dX2_all_4 rfl ?_
  refine gm_aload_n g dX2_all_5 rfl ?_
  refine ob_getn G q171 dX2_all_6 ?_
  refine gN_icmp_gt g 22 dX2_all_9 (by decide) (by omega) (by omega) (fun c1 => ?_) (fun c1 => ?_)
  · have e : k = N := by omega
    subst e
    refine gm_iload_n g dX2_all_22 rfl ?_
    exact ret _ _ _ _ dX2_all_23 rfl ⟨rfl, rfl⟩
  · refine gm_iload_n g dX2_all_12 rfl ?_
    refine gm_iload_n g dX2_all_13 rfl ?_
    refine gN_imul g dX2_all_14 ?_
    refine gm_istore_n (lv' := [.ref (ob_h X), .int (nI ((fac k) * (k + 1))), .int (nI (k + 1))]) g dX2_all_15 rfl rfl ?_
    refine gN_iinc (lv' := [.ref (ob_h X), .int (nI ((fac k) * (k + 1))), .int (nI ((k + 1) + 1))]) g dX2_all_16 rfl rfl rfl ?_
    refine gm_goto g 4 dX2_all_19 (by decide) ?_
    exact ih (by omega)
set_option maxHeartbeats 4000000 in
theorem m_isSorted {N : Nat} (c : Int32) (F : Nat → Nat → Int32) (hN7 : N ≤ 7) (v : Nat → Int32) (hv : ∀ x, x < N → F 4 x = v x) : ob_Met K2 yX2_isSorted cX2_isSorted 2 (some .boolean) 0 0 [] (nI N, c, F) (fun r S' => S' = (nI N, c, F) ∧ r = nI (srt N v).toNat) := by
  refine ob_intro C2 rfl rfl (Nat.le_of_ble_eq_true rfl) ?_
  intro E X G ret
  have g := G.1
  generalize hf : (fun x => v x == nI (x + 1)) = f
  have hsr : srt N v = allq f N := by unfold srt; rw [hf]
  refine gm_iconst (v := nI 0) g dX2_isSorted_0 (by decide) ?_
  refine gm_istore_n (lv' := [.ref (ob_h X), .int (nI 0)]) g dX2_isSorted_1 rfl rfl ?_
  have key : ∀ k, k ≤ N → allq f k = true → gm E 2 (ob_I K2 X (nI N, c, F)) [.ref (ob_h X), .int (nI k)] 2 [] := by
    intro k hk
    refine lq0 N (fun k => allq f k = true → gm E 2 (ob_I K2 X (nI N, c, F)) [.ref (ob_h X), .int (nI k)] 2 []) ?_ k hk
    intro k hk ih hq
    refine gm_iload_n g dX2_isSorted_2 rfl ?_
    refine gm_aload_n g dX2_isSorted_3 rfl ?_
    refine ob_getn G q171 dX2_isSorted_4 ?_
    refine gN_icmp_ge g 30 dX2_isSorted_7 (by decide) (by omega) (by omega) (fun c1 => ?_) (fun c1 => ?_)
    · have e : k = N := by omega
      subst e
      refine gm_iconst (v := nI 1) g dX2_isSorted_30 (by decide) ?_
      exact ret _ _ _ _ dX2_isSorted_31 rfl ⟨rfl, by rw [hsr, hq]; rfl⟩
    · refine gm_aload_n g dX2_isSorted_10 rfl ?_
      refine ob_geta G 4 rfl q177 dX2_isSorted_11 ?_
      refine gm_iload_n g dX2_isSorted_14 rfl ?_
      refine ob_iald (v := v k) G 4 rfl dX2_isSorted_15 (by omega) (hv k c1) ?_
      refine gm_iload_n g dX2_isSorted_16 rfl ?_
      refine gm_iconst (v := nI 1) g dX2_isSorted_17 (by decide) ?_
      refine gN_iadd g dX2_isSorted_18 ?_
      refine gm_icmp_eq g 24 dX2_isSorted_19 (by decide) (fun c2 => ?_) (fun c2 => ?_)
      · refine gN_iinc (lv' := [.ref (ob_h X), .int (nI (k + 1))]) g dX2_isSorted_24 rfl rfl rfl ?_
        refine gm_goto g 2 dX2_isSorted_27 (by decide) ?_
        exact ih c1 (allq_s hq (by rw [← hf]; exact beq_iff_eq.mpr c2))
      · refine gm_iconst (v := nI 0) g dX2_isSorted_22 (by decide) ?_
        exact ret _ _ _ _ dX2_isSorted_23 rfl ⟨rfl, by rw [hsr, allq_f (x := k) (by rw [← hf]; exact beq_false_of_ne c2) N c1]; rfl⟩
  exact key 0 (Nat.zero_le _) rfl
end
section
set_option maxRecDepth 100000
set_option maxHeartbeats 4000000 in
theorem m_sorted {N C : Nat} {lo hi : Nat → Nat} {gv : Nat → Int32} {F : Nat → Nat → Int32} (hN : ok_net N C lo hi) (hF : mF F N C lo hi gv) (hend : vend N 5041 (ord0 N) = true) : ob_Met K2 yX2_sorted cX2_sorted 3 (some .int) 2 46 [] (nI N, nI C, F) (fun r S' => ∃ F' : Nat → Nat → Int32, S' = (nI N, nI C, F') ∧ mF F' N C lo hi gv ∧ r = nI (cnl (fun p => srt N (wrun lo hi nsk C (pv p))) (VV N))) := by
  refine ob_intro C2 rfl rfl (Nat.le_of_ble_eq_true rfl) ?_
  intro E X G ret
  have g := G.1
  obtain ⟨hN2, hN7, hC24, hnet⟩ := id hN
  obtain ⟨hFc, hFg⟩ := id hF
  generalize hqe : (fun p => srt N (wrun lo hi nsk C (pv p))) = q at ret
  have hqs : ∀ p, q p = srt N (wrun lo hi nsk C (pv p)) := fun p => by rw [← hqe]
  have loop : ∀ (f : Nat) (p : List Nat) (F : Nat → Nat → Int32) (many : Nat), vend N f p = true → okp N p → mF F N C lo hi gv → orF F p → many + cnl q (vis N f p) = cnl q (VV N) → gm E 3 (ob_I K2 X (nI N, nI C, F)) [.ref (ob_h X), .int (nI many), .int (nI 1)] 8 [] := by
    intro f
    induction f with
    | zero =>
      intro p F many he
      cases he
    | succ f ih =>
      intro p F many he hp hF ho hc
      refine gm_iload_n g dX2_sorted_8 rfl ?_
      refine gN_if_eq g 35 dX2_sorted_9 (by decide) (by decide) (fun c1 => ?_) (fun c1 => ?_)
      · exact absurd c1 (by decide)
      · refine gm_aload_n g dX2_sorted_12 rfl ?_
        refine gm_iconst (v := -1) g dX2_sorted_13 (by decide) ?_
        refine ob_callv (as := [.int (-1)]) (rest := []) G (m_pass hN hF (-1) nsk (nsk_ok hC24) (pv p) (orF_v ho hp)) wX2_pass rfl npX2_pass rfl rfl rfl (Nat.le_of_ble_eq_true rfl) dX2_sorted_14 (fun S' hp => ?_)
        obtain ⟨F1, rfl, hfr1, hw1⟩ := hp
        have hM1 : mF F1 N C lo hi gv := mF_fr (hfr1 0 (by decide)) (hfr1 1 (by decide)) (hfr1 2 (by decide)) hF
        have ho1 : orF F1 p := orF_fr ho (hfr1 3 (by decide))
        refine gm_aload_n g dX2_sorted_17 rfl ?_
        refine ob_call (as := []) (rest := []) G (m_isSorted (nI C) F1 hN7 _ hw1) wX2_isSorted rfl npX2_isSorted rfl rfl rfl (Nat.le_of_ble_eq_true rfl) dX2_sorted_18 (fun r S' hp => ?_)
        obtain ⟨rfl, rfl⟩ := hp
        have tl : ∀ m' : Nat, m' = many + (q p).toNat → gm E 3 (ob_I K2 X (nI N, nI C, F1)) [.ref (ob_h X), .int (nI m'), .int (nI 1)] 27 [] := by
          intro m' hm'
          refine gm_aload_n g dX2_sorted_27 rfl ?_
          refine ob_call (as := []) (rest := []) G (m_nextOrder (nI C) hN2 hN7 hp ho1) wX2_nextOrder rfl npX2_nextOrder rfl rfl rfl (Nat.le_of_ble_eq_true rfl) dX2_sorted_28 (fun r S' hp => ?_)
          obtain ⟨F2, rfl, hfr2, ho2, rfl⟩ := hp
          have hM2 : mF F2 N C lo hi gv := mF_fr (hfr2 0 (by decide)) (hfr2 1 (by decide)) (hfr2 2 (by decide)) hM1
          refine gm_istore_n (lv' := [.ref (ob_h X), .int (nI m'), .int (nI ((nxt N p).1.toNat))]) g dX2_sorted_31 rfl rfl ?_
          refine gm_goto g 8 dX2_sorted_32 (by decide) ?_
          cases hb : (nxt N p).1 with
          | false =>
            rw [vis_f hb] at hc
            have hc2 : many + ((q p).toNat + 0) = cnl q (VV N) := hc
            refine gm_iload_n g dX2_sorted_8 rfl ?_
            refine gN_if_eq g 35 dX2_sorted_9 (by decide) (by decide) (fun c9 => ?_) (fun c9 => ?_)
            · refine gm_iload_n g dX2_sorted_35 rfl ?_
              exact ret _ _ _ _ dX2_sorted_36 rfl ⟨F2, rfl, hM2, (by rw [hm', ← hc2]; rfl)⟩
            · exact absurd rfl c9
          | true =>
            rw [vis_t hb] at hc
            have hc2 : many + ((q p).toNat + cnl q (vis N f (nxt N p).2)) = cnl q (VV N) := hc
            exact ih (nxt N p).2 F2 m' (vend_t hb he) (nxt_ok hN2 hp) hM2 ho2 (by omega)
        refine gN_if_eq g 27 dX2_sorted_21 (by decide) (bt_lt _) (fun c2 => ?_) (fun c2 => ?_)
        · exact tl _ (by rw [hqs, c2]; rfl)
        · refine gN_iinc (lv' := [.ref (ob_h X), .int (nI (many + 1)), .int (nI 1)]) g dX2_sorted_24 rfl rfl rfl ?_
          exact tl _ (by rw [hqs, show srt N (wrun lo hi nsk C (pv p)) = true from by revert c2; cases srt N (wrun lo hi nsk C (pv p)) <;> simp]; rfl)
  refine gm_aload_n g dX2_sorted_0 rfl ?_
  refine ob_callv (as := []) (rest := []) G (m_firstOrder (nI C) F hN7) wX2_firstOrder rfl npX2_firstOrder rfl rfl rfl (Nat.le_of_ble_eq_true rfl) dX2_sorted_1 (fun S' hp => ?_)
  obtain ⟨F0, rfl, hfr0, ho0⟩ := hp
  refine gm_iconst (v := nI 0) g dX2_sorted_4 (by decide) ?_
  refine gm_istore_n (lv' := [.ref (ob_h X), .int (nI 0)]) g dX2_sorted_5 rfl rfl ?_
  refine gm_iconst (v := nI 1) g dX2_sorted_6 (by decide) ?_
  refine gm_istore_n (lv' := [.ref (ob_h X), .int (nI 0), .int (nI 1)]) g dX2_sorted_7 rfl rfl ?_
  exact loop 5041 (ord0 N) F0 0 hend (ord0_ok hN7) (mF_fr (hfr0 0 (by decide)) (hfr0 1 (by decide)) (hfr0 2 (by decide)) hF) ho0 (by rw [Nat.zero_add]; rfl)
set_option maxHeartbeats 4000000 in
theorem m_sorts {N C : Nat} {lo hi : Nat → Nat} {gv : Nat → Int32} {F : Nat → Nat → Int32} (hN : ok_net N C lo hi) (hF : mF F N C lo hi gv) (hend : vend N 5041 (ord0 N) = true) : ob_Met K2 yX2_sorts cX2_sorts 2 (some .int) 3 68 [] (nI N, nI C, F) (fun r S' => ∃ F' : Nat → Nat → Int32, S' = (nI N, nI C, F') ∧ mF F' N C lo hi gv ∧ r = nI (if cnl (fun p => srt N (wrun lo hi nsk C (pv p))) (VV N) = fac N then 1 else 0)) := by
  refine ob_intro C2 rfl rfl (Nat.le_of_ble_eq_true rfl) ?_
  intro E X G ret
  have g := G.1
  obtain ⟨hN2, hN7, hC24, hnet⟩ := id hN
  obtain ⟨hFc, hFg⟩ := id hF
  have hfl := fac_lt N (by omega)
  have hcl := cnl_VV (fun p => srt N (wrun lo hi nsk C (pv p))) N
  refine gm_aload_n g dX2_sorts_0 rfl ?_
  refine ob_call (as := []) (rest := []) G (m_all (nI C) F hN2 hN7) wX2_all rfl npX2_all rfl rfl rfl (Nat.le_of_ble_eq_true rfl) dX2_sorts_1 (fun r S' hp => ?_)
  obtain ⟨rfl, rfl⟩ := hp
  refine gm_istore_n (lv' := [.ref (ob_h X), .int (nI (fac N))]) g dX2_sorts_4 rfl rfl ?_
  refine gm_aload_n g dX2_sorts_5 rfl ?_
  refine ob_call (as := []) (rest := []) G (m_sorted hN hF hend) wX2_sorted rfl npX2_sorted rfl rfl rfl (Nat.le_of_ble_eq_true rfl) dX2_sorts_6 (fun r S' hp => ?_)
  obtain ⟨F1, rfl, hF1, rfl⟩ := hp
  refine gm_iload_n g dX2_sorts_9 rfl ?_
  refine gN_icmp_ne g 17 dX2_sorts_10 (by decide) (hcl) (hfl) (fun c1 => ?_) (fun c1 => ?_)
  · refine gm_iconst (v := nI 0) g dX2_sorts_17 (by decide) ?_
    exact ret _ _ _ _ dX2_sorts_18 rfl ⟨F1, rfl, hF1, by rw [if_neg c1]⟩
  · refine gm_iconst (v := nI 1) g dX2_sorts_13 (by decide) ?_
    refine gm_goto g 18 dX2_sorts_14 (by decide) ?_
    exact ret _ _ _ _ dX2_sorts_18 rfl ⟨F1, rfl, hF1, by rw [if_pos c1]⟩
set_option maxHeartbeats 4000000 in
theorem m_ranks {N C : Nat} {lo hi : Nat → Nat} {gv : Nat → Int32} {F : Nat → Nat → Int32} (hN : ok_net N C lo hi) (hF : mF F N C lo hi gv) (hend : vend N 5041 (ord0 N) = true) (w rr : Int32) : ob_Met K2 yX2_ranks cX2_ranks 5 (some .int) 2 46 [.int w, .int rr] (nI N, nI C, F) (fun r S' => ∃ F' : Nat → Nat → Int32, S' = (nI N, nI C, F') ∧ mF F' N C lo hi gv ∧ r = if bw (nI N) w ≠ 0 ∨ rr < nI 1 ∨ ¬ rr ≤ nI N then -1 else nI (cnl (fun p => wrun lo hi nsk C (pv p) w.toNatClampNeg == nI rr.toNatClampNeg) (VV N))) := by
  refine ob_intro C2 rfl rfl (Nat.le_of_ble_eq_true rfl) ?_
  intro E X G ret
  have g := G.1
  obtain ⟨hN2, hN7, hC24, hnet⟩ := id hN
  obtain ⟨hFc, hFg⟩ := id hF
  refine gm_aload_n g dX2_ranks_0 rfl ?_
  refine gm_iload_n g dX2_ranks_1 rfl ?_
  refine ob_call (as := [.int w]) (rest := []) G (m_noWire (nI N) (nI C) F w) wX2_noWire rfl npX2_noWire rfl rfl rfl (Nat.le_of_ble_eq_true rfl) dX2_ranks_2 (fun r S' hp => ?_)
  obtain ⟨rfl, rfl⟩ := hp
  refine gN_if_ne g 21 dX2_ranks_5 (by decide) (bw_lt _ _) (fun c1 => ?_) (fun c1 => ?_)
  · refine gm_iconst (v := -1) g dX2_ranks_21 (by decide) ?_
    exact ret _ _ _ _ dX2_ranks_22 rfl ⟨F, rfl, hF, by rw [if_pos (Or.inl c1)]⟩
  · refine gm_iload_n g dX2_ranks_8 rfl ?_
    refine gm_iconst (v := nI 1) g dX2_ranks_9 (by decide) ?_
    refine gm_icmp_lt g 21 dX2_ranks_10 (by decide) (fun c2 => ?_) (fun c2 => ?_)
    · refine gm_iconst (v := -1) g dX2_ranks_21 (by decide) ?_
      exact ret _ _ _ _ dX2_ranks_22 rfl ⟨F, rfl, hF, by rw [if_pos (Or.inr (Or.inl c2))]⟩
    · refine gm_iload_n g dX2_ranks_13 rfl ?_
      refine gm_aload_n g dX2_ranks_14 rfl ?_
      refine ob_getn G q171 dX2_ranks_15 ?_
      refine gm_icmp_le g 23 dX2_ranks_18 (by decide) (fun c3 => ?_) (fun c3 => ?_)
      · have hno : ¬ (bw (nI N) w ≠ 0 ∨ rr < nI 1 ∨ ¬ rr ≤ nI N) := fun h => h.elim (fun h => h c1) (fun h => h.elim c2 (fun h => h c3))
        obtain ⟨a, ha, ew⟩ := bw_in (by omega) c1
        obtain ⟨b, hb1, hb2, er⟩ := rk_in hN7 c2 c3
        subst ew; subst er
        have ea : (nI a).toNatClampNeg = a := nI_clamp (by omega)
        have eb : (nI b).toNatClampNeg = b := nI_clamp (by omega)
        rw [ea, eb] at ret
        generalize hqe : (fun p => wrun lo hi nsk C (pv p) a == nI b) = q at ret
        have hqs : ∀ p, q p = (wrun lo hi nsk C (pv p) a == nI b) := fun p => by rw [← hqe]
        have loop : ∀ (f : Nat) (p : List Nat) (F : Nat → Nat → Int32) (many : Nat), vend N f p = true → okp N p → mF F N C lo hi gv → orF F p → many + cnl q (vis N f p) = cnl q (VV N) → gm E 5 (ob_I K2 X (nI N, nI C, F)) [.ref (ob_h X), .int (nI a), .int (nI b), .int (nI many), .int (nI 1)] 32 [] := by
          intro f
          induction f with
          | zero =>
            intro p F many he
            cases he
          | succ f ih =>
            intro p F many he hp hF ho hc
            refine gm_iload g dX2_ranks_32 rfl ?_
            refine gN_if_eq g 64 dX2_ranks_34 (by decide) (by decide) (fun c1 => ?_) (fun c1 => ?_)
            · exact absurd c1 (by decide)
            · refine gm_aload_n g dX2_ranks_37 rfl ?_
              refine gm_iconst (v := -1) g dX2_ranks_38 (by decide) ?_
              refine ob_callv (as := [.int (-1)]) (rest := []) G (m_pass hN hF (-1) nsk (nsk_ok hC24) (pv p) (orF_v ho hp)) wX2_pass rfl npX2_pass rfl rfl rfl (Nat.le_of_ble_eq_true rfl) dX2_ranks_39 (fun S' hp => ?_)
              obtain ⟨F1, rfl, hfr1, hw1⟩ := hp
              have hM1 : mF F1 N C lo hi gv := mF_fr (hfr1 0 (by decide)) (hfr1 1 (by decide)) (hfr1 2 (by decide)) hF
              have ho1 : orF F1 p := orF_fr ho (hfr1 3 (by decide))
              refine gm_aload_n g dX2_ranks_42 rfl ?_
              refine ob_geta G 4 rfl q177 dX2_ranks_43 ?_
              refine gm_iload_n g dX2_ranks_46 rfl ?_
              refine ob_iald (v := wrun lo hi nsk C (pv p) a) G 4 rfl dX2_ranks_47 (by omega) (hw1 a ha) ?_
              refine gm_iload_n g dX2_ranks_48 rfl ?_
              have tl : ∀ m' : Nat, m' = many + (q p).toNat → gm E 5 (ob_I K2 X (nI N, nI C, F1)) [.ref (ob_h X), .int (nI a), .int (nI b), .int (nI m'), .int (nI 1)] 55 [] := by
                intro m' hm'
                refine gm_aload_n g dX2_ranks_55 rfl ?_
                refine ob_call (as := []) (rest := []) G (m_nextOrder (nI C) hN2 hN7 hp ho1) wX2_nextOrder rfl npX2_nextOrder rfl rfl rfl (Nat.le_of_ble_eq_true rfl) dX2_ranks_56 (fun r S' hp => ?_)
                obtain ⟨F2, rfl, hfr2, ho2, rfl⟩ := hp
                have hM2 : mF F2 N C lo hi gv := mF_fr (hfr2 0 (by decide)) (hfr2 1 (by decide)) (hfr2 2 (by decide)) hM1
                refine gm_istore (lv' := [.ref (ob_h X), .int (nI a), .int (nI b), .int (nI m'), .int (nI ((nxt N p).1.toNat))]) g dX2_ranks_59 rfl rfl ?_
                refine gm_goto g 32 dX2_ranks_61 (by decide) ?_
                cases hb : (nxt N p).1 with
                | false =>
                  rw [vis_f hb] at hc
                  have hc2 : many + ((q p).toNat + 0) = cnl q (VV N) := hc
                  refine gm_iload g dX2_ranks_32 rfl ?_
                  refine gN_if_eq g 64 dX2_ranks_34 (by decide) (by decide) (fun c9 => ?_) (fun c9 => ?_)
                  · refine gm_iload_n g dX2_ranks_64 rfl ?_
                    exact ret _ _ _ _ dX2_ranks_65 rfl ⟨F2, rfl, hM2, by rw [if_neg hno, hm', ← hc2]; rfl⟩
                  · exact absurd rfl c9
                | true =>
                  rw [vis_t hb] at hc
                  have hc2 : many + ((q p).toNat + cnl q (vis N f (nxt N p).2)) = cnl q (VV N) := hc
                  exact ih (nxt N p).2 F2 m' (vend_t hb he) (nxt_ok hN2 hp) hM2 ho2 (by omega)
              refine gm_icmp_ne g 55 dX2_ranks_49 (by decide) (fun c4 => ?_) (fun c4 => ?_)
              · exact tl _ (by rw [hqs, show (wrun lo hi nsk C (pv p) a == nI b) = false from beq_false_of_ne c4]; rfl)
              · refine gN_iinc (lv' := [.ref (ob_h X), .int (nI a), .int (nI b), .int (nI (many + 1)), .int (nI 1)]) g dX2_ranks_52 rfl rfl rfl ?_
                exact tl _ (by rw [hqs, show (wrun lo hi nsk C (pv p) a == nI b) = true from beq_iff_eq.mpr c4]; rfl)
        refine gm_aload_n g dX2_ranks_23 rfl ?_
        refine ob_callv (as := []) (rest := []) G (m_firstOrder (nI C) F hN7) wX2_firstOrder rfl npX2_firstOrder rfl rfl rfl (Nat.le_of_ble_eq_true rfl) dX2_ranks_24 (fun S' hp => ?_)
        obtain ⟨F0, rfl, hfr0, ho0⟩ := hp
        refine gm_iconst (v := nI 0) g dX2_ranks_27 (by decide) ?_
        refine gm_istore_n (lv' := [.ref (ob_h X), .int (nI a), .int (nI b), .int (nI 0)]) g dX2_ranks_28 rfl rfl ?_
        refine gm_iconst (v := nI 1) g dX2_ranks_29 (by decide) ?_
        refine gm_istore (lv' := [.ref (ob_h X), .int (nI a), .int (nI b), .int (nI 0), .int (nI 1)]) g dX2_ranks_30 rfl rfl ?_
        exact loop 5041 (ord0 N) F0 0 hend (ord0_ok hN7) (mF_fr (hfr0 0 (by decide)) (hfr0 1 (by decide)) (hfr0 2 (by decide)) hF) ho0 (by rw [Nat.zero_add]; rfl)
      · refine gm_iconst (v := -1) g dX2_ranks_21 (by decide) ?_
        exact ret _ _ _ _ dX2_ranks_22 rfl ⟨F, rfl, hF, by rw [if_pos (Or.inr (Or.inr c3))]⟩
set_option maxHeartbeats 4000000 in
theorem m_works {N C : Nat} {lo hi : Nat → Nat} {gv : Nat → Int32} {F : Nat → Nat → Int32} (hN : ok_net N C lo hi) (hF : mF F N C lo hi gv) (hend : vend N 5041 (ord0 N) = true) (k : Int32) : ob_Met K2 yX2_works cX2_works 6 (some .int) 1 25 [.int k] (nI N, nI C, F) (fun r S' => ∃ F' : Nat → Nat → Int32, S' = (nI N, nI C, F') ∧ mF F' N C lo hi gv ∧ r = if bw (nI C) k ≠ 0 then -4 else nI (cnl (fun p => decide (wrun lo hi nsk k.toNatClampNeg (pv p) (hi k.toNatClampNeg) < wrun lo hi nsk k.toNatClampNeg (pv p) (lo k.toNatClampNeg))) (VV N))) := by
  refine ob_intro C2 rfl rfl (Nat.le_of_ble_eq_true rfl) ?_
  intro E X G ret
  have g := G.1
  obtain ⟨hN2, hN7, hC24, hnet⟩ := id hN
  obtain ⟨hFc, hFg⟩ := id hF
  refine gm_aload_n g dX2_works_0 rfl ?_
  refine gm_iload_n g dX2_works_1 rfl ?_
  refine ob_call (as := [.int k]) (rest := []) G (m_is (nI N) (nI C) F k) wX2_is rfl npX2_is rfl rfl rfl (Nat.le_of_ble_eq_true rfl) dX2_works_2 (fun r S' hp => ?_)
  obtain ⟨rfl, rfl⟩ := hp
  refine gN_if_ne g 11 dX2_works_5 (by decide) (bi_lt _ _) (fun c1 => ?_) (fun c1 => ?_)
  · have hb0 : bw (nI C) k = 0 := bi_n c1
    obtain ⟨a, ha, ek⟩ := bw_in (by omega) hb0
    subst ek
    have ea : (nI a).toNatClampNeg = a := nI_clamp (by omega)
    rw [ea] at ret
    generalize hqe : (fun p => decide (wrun lo hi nsk a (pv p) (hi a) < wrun lo hi nsk a (pv p) (lo a))) = q at ret
    have hqs : ∀ p, q p = decide (wrun lo hi nsk a (pv p) (hi a) < wrun lo hi nsk a (pv p) (lo a)) := fun p => by rw [← hqe]
    have loop : ∀ (f : Nat) (p : List Nat) (F : Nat → Nat → Int32) (many : Nat), vend N f p = true → okp N p → mF F N C lo hi gv → orF F p → many + cnl q (vis N f p) = cnl q (VV N) → gm E 6 (ob_I K2 X (nI N, nI C, F)) [.ref (ob_h X), .int (nI a), .int (nI many), .int (nI 1)] 19 [] := by
      intro f
      induction f with
      | zero =>
        intro p F many he
        cases he
      | succ f ih =>
        intro p F many he hp hF ho hc
        refine gm_iload_n g dX2_works_19 rfl ?_
        refine gN_if_eq g 97 dX2_works_20 (by decide) (by decide) (fun c1 => ?_) (fun c1 => ?_)
        · exact absurd c1 (by decide)
        · refine gm_iconst (v := nI 0) g dX2_works_23 (by decide) ?_
          refine gm_istore (lv' := [.ref (ob_h X), .int (nI a), .int (nI many), .int (nI 1), .int (nI 0)]) g dX2_works_24 rfl rfl ?_
          refine lq1 (A := Nat → Nat → Int32) N (fun i F' => gm E 6 (ob_I K2 X (nI N, nI C, F')) [.ref (ob_h X), .int (nI a), .int (nI many), .int (nI 1), .int (nI i)] 26 []) (fun i F' => (∀ j, j ≠ 4 → F' j = F j) ∧ ∀ x, x < i → F' 4 x = pv p x) ?_ 0 F (Nat.zero_le _) ⟨fun _ _ => rfl, fun x hx => absurd hx (Nat.not_lt_zero x)⟩
          intro i F' hle hv ih2
          obtain ⟨hfr, h4⟩ := hv
          refine gm_iload g dX2_works_26 rfl ?_
          refine gm_aload_n g dX2_works_28 rfl ?_
          refine ob_getn G q171 dX2_works_29 ?_
          refine gN_icmp_ge g 55 dX2_works_32 (by decide) (by omega) (by omega) (fun c3 => ?_) (fun c3 => ?_)
          · have e : i = N := by omega
            rw [e] at h4
            refine gm_iconst (v := nI 0) g dX2_works_55 (by decide) ?_
            refine gm_istore (lv' := [.ref (ob_h X), .int (nI a), .int (nI many), .int (nI 1), .int (nI 0)]) g dX2_works_56 rfl rfl ?_
            refine gm_iconst (v := nI 0) g dX2_works_58 (by decide) ?_
            refine gm_istore (lv' := [.ref (ob_h X), .int (nI a), .int (nI many), .int (nI 1), .int (nI 0), .int (nI 0)]) g dX2_works_59 rfl rfl ?_
            refine lq1 (A := Nat → Nat → Int32) (a + 1) (fun m F1 => gm E 6 (ob_I K2 X (nI N, nI C, F1)) [.ref (ob_h X), .int (nI a), .int (nI many), .int (nI 1), .int (nI (dnb lo hi (pv p) m)), .int (nI m)] 61 []) (fun m F1 => (∀ j, j ≠ 4 → F1 j = F j) ∧ ∀ x, x < N → F1 4 x = wrun lo hi nsk m (pv p) x) ?_ 0 F' (Nat.zero_le _) ⟨hfr, h4⟩
            intro m F1 hm hv ih3
            obtain ⟨hfr1, h5⟩ := hv
            have hM1 : mF F1 N C lo hi gv := mF_fr (hfr1 0 (by decide)) (hfr1 1 (by decide)) (hfr1 2 (by decide)) hF
            have ho1 : orF F1 p := orF_fr ho (hfr1 3 (by decide))
            refine gm_iload g dX2_works_61 rfl ?_
            refine gm_iload_n g dX2_works_63 rfl ?_
            refine gN_icmp_gt g 81 dX2_works_64 (by decide) (by omega) (by omega) (fun c4 => ?_) (fun c4 => ?_)
            · have e2 : m = a + 1 := by omega
              subst e2
              have tl : ∀ m' : Nat, m' = many + (q p).toNat → gm E 6 (ob_I K2 X (nI N, nI C, F1)) [.ref (ob_h X), .int (nI a), .int (nI m'), .int (nI 1)] 89 [] := by
                intro m' hm'
                refine gm_aload_n g dX2_works_89 rfl ?_
                refine ob_call (as := []) (rest := []) G (m_nextOrder (nI C) hN2 hN7 hp ho1) wX2_nextOrder rfl npX2_nextOrder rfl rfl rfl (Nat.le_of_ble_eq_true rfl) dX2_works_90 (fun r S' hp => ?_)
                obtain ⟨F2, rfl, hfr2, ho2, rfl⟩ := hp
                have hM2 : mF F2 N C lo hi gv := mF_fr (hfr2 0 (by decide)) (hfr2 1 (by decide)) (hfr2 2 (by decide)) hM1
                refine gm_istore_n (lv' := [.ref (ob_h X), .int (nI a), .int (nI m'), .int (nI ((nxt N p).1.toNat))]) g dX2_works_93 rfl rfl ?_
                refine gm_goto g 19 dX2_works_94 (by decide) ?_
                cases hb : (nxt N p).1 with
                | false =>
                  rw [vis_f hb] at hc
                  have hc2 : many + ((q p).toNat + 0) = cnl q (VV N) := hc
                  refine gm_iload_n g dX2_works_19 rfl ?_
                  refine gN_if_eq g 97 dX2_works_20 (by decide) (by decide) (fun c9 => ?_) (fun c9 => ?_)
                  · refine gm_iload_n g dX2_works_97 rfl ?_
                    exact ret _ _ _ _ dX2_works_98 rfl ⟨F2, rfl, hM2, by rw [if_neg (fun h => h hb0), hm', ← hc2]; rfl⟩
                  · exact absurd rfl c9
                | true =>
                  rw [vis_t hb] at hc
                  have hc2 : many + ((q p).toNat + cnl q (vis N f (nxt N p).2)) = cnl q (VV N) := hc
                  exact ih (nxt N p).2 F2 m' (vend_t hb he) (nxt_ok hN2 hp) hM2 ho2 (by omega)
              refine gm_iload g dX2_works_81 rfl ?_
              refine gN_if_eq g 89 dX2_works_83 (by decide) (dnb_le _ _ _ _) (fun c5 => ?_) (fun c5 => ?_)
              · refine gm_take 4 rfl ?_
                exact tl _ (by rw [hqs, show (decide (wrun lo hi nsk a (pv p) (hi a) < wrun lo hi nsk a (pv p) (lo a))).toNat = 0 from c5]; rfl)
              · refine gN_iinc (lv' := [.ref (ob_h X), .int (nI a), .int (nI (many + 1)), .int (nI 1), .int (nI (dnb lo hi (pv p) (a + 1))), .int (nI (a + 1))]) g dX2_works_86 rfl rfl rfl ?_
                refine gm_take 4 rfl ?_
                have c6 : (decide (wrun lo hi nsk a (pv p) (hi a) < wrun lo hi nsk a (pv p) (lo a))).toNat ≠ 0 := c5
                exact tl _ (by rw [hqs]; revert c6; cases decide (wrun lo hi nsk a (pv p) (hi a) < wrun lo hi nsk a (pv p) (lo a)) <;> simp)
            · refine gm_aload_n g dX2_works_67 rfl ?_
              refine gm_iload g dX2_works_68 rfl ?_
              refine ob_call (as := [.int (nI m)]) (rest := []) G (m_compare hN hM1 (show m < C by omega) _ h5) wX2_compare rfl npX2_compare rfl rfl rfl (Nat.le_of_ble_eq_true rfl) dX2_works_70 (fun r S' hp => ?_)
              obtain ⟨F3, rfl, hfr3, h6, rfl⟩ := hp
              refine gm_istore (lv' := [.ref (ob_h X), .int (nI a), .int (nI many), .int (nI 1), .int (nI (dnb lo hi (pv p) (m + 1))), .int (nI m)]) g dX2_works_73 rfl rfl ?_
              refine gN_iinc (lv' := [.ref (ob_h X), .int (nI a), .int (nI many), .int (nI 1), .int (nI (dnb lo hi (pv p) (m + 1))), .int (nI (m + 1))]) g dX2_works_75 rfl rfl rfl ?_
              refine gm_goto g 61 dX2_works_78 (by decide) ?_
              exact ih3 (by omega) F3 ⟨fun j hj => by rw [hfr3 j hj]; exact hfr1 j hj, by rw [wrun_s]; exact h6⟩
          · refine gm_aload_n g dX2_works_35 rfl ?_
            refine ob_geta G 4 rfl q177 dX2_works_36 ?_
            refine gm_iload g dX2_works_39 rfl ?_
            refine gm_aload_n g dX2_works_41 rfl ?_
            refine ob_geta G 3 rfl q176 dX2_works_42 ?_
            refine gm_iload g dX2_works_45 rfl ?_
            refine ob_iald (v := pv p i) G 3 rfl dX2_works_47 (by omega) (by rw [hfr 3 (by decide)]; exact orF_v ho hp i c3) ?_
            refine ob_iast G 4 rfl dX2_works_48 (by omega) ?_
            generalize hF1 : va_up F' 4 (upd (F' 4) i (pv p i)) = F1
            refine gN_iinc (lv' := [.ref (ob_h X), .int (nI a), .int (nI many), .int (nI 1), .int (nI (i + 1))]) g dX2_works_49 rfl rfl rfl ?_
            refine gm_goto g 26 dX2_works_52 (by decide) ?_
            exact ih2 c3 F1 ⟨fun j hj => by rw [up_n hF1 hj]; exact hfr j hj, fun x hx => by
              rw [up_s hF1]
              by_cases e : x = i
              · subst e; rw [upd_s]
              · rw [upd_n _ _ e]; exact h4 x (by omega)⟩
    refine gm_aload_n g dX2_works_11 rfl ?_
    refine ob_callv (as := []) (rest := []) G (m_firstOrder (nI C) F hN7) wX2_firstOrder rfl npX2_firstOrder rfl rfl rfl (Nat.le_of_ble_eq_true rfl) dX2_works_12 (fun S' hp => ?_)
    obtain ⟨F0, rfl, hfr0, ho0⟩ := hp
    refine gm_iconst (v := nI 0) g dX2_works_15 (by decide) ?_
    refine gm_istore_n (lv' := [.ref (ob_h X), .int (nI a), .int (nI 0)]) g dX2_works_16 rfl rfl ?_
    refine gm_iconst (v := nI 1) g dX2_works_17 (by decide) ?_
    refine gm_istore_n (lv' := [.ref (ob_h X), .int (nI a), .int (nI 0), .int (nI 1)]) g dX2_works_18 rfl rfl ?_
    exact loop 5041 (ord0 N) F0 0 hend (ord0_ok hN7) (mF_fr (hfr0 0 (by decide)) (hfr0 1 (by decide)) (hfr0 2 (by decide)) hF) ho0 (by rw [Nat.zero_add]; rfl)
  · refine gm_bipush (v := -4) g dX2_works_8 (by decide) ?_
    exact ret _ _ _ _ dX2_works_10 rfl ⟨F, rfl, hF, by rw [if_pos (bi_z c1)]⟩
set_option maxHeartbeats 4000000 in
theorem m_below {N C : Nat} {lo hi : Nat → Nat} {gv : Nat → Int32} {F : Nat → Nat → Int32} (hN : ok_net N C lo hi) (hF : mF F N C lo hi gv) (hend : vend N 5041 (ord0 N) = true) (v w : Int32) : ob_Met K2 yX2_below cX2_below 5 (some .int) 2 46 [.int v, .int w] (nI N, nI C, F) (fun r S' => ∃ F' : Nat → Nat → Int32, S' = (nI N, nI C, F') ∧ mF F' N C lo hi gv ∧ r = if bw (nI N) v ≠ 0 ∨ bw (nI N) w ≠ 0 then -1 else nI (cnl (fun p => decide (wrun lo hi nsk C (pv p) v.toNatClampNeg < wrun lo hi nsk C (pv p) w.toNatClampNeg)) (VV N))) := by
  refine ob_intro C2 rfl rfl (Nat.le_of_ble_eq_true rfl) ?_
  intro E X G ret
  have g := G.1
  obtain ⟨hN2, hN7, hC24, hnet⟩ := id hN
  obtain ⟨hFc, hFg⟩ := id hF
  refine gm_aload_n g dX2_below_0 rfl ?_
  refine gm_iload_n g dX2_below_1 rfl ?_
  refine ob_call (as := [.int v]) (rest := []) G (m_noWire (nI N) (nI C) F v) wX2_noWire rfl npX2_noWire rfl rfl rfl (Nat.le_of_ble_eq_true rfl) dX2_below_2 (fun r S' hp => ?_)
  obtain ⟨rfl, rfl⟩ := hp
  refine gN_if_ne g 16 dX2_below_5 (by decide) (bw_lt _ _) (fun c1 => ?_) (fun c1 => ?_)
  · refine gm_iconst (v := -1) g dX2_below_16 (by decide) ?_
    exact ret _ _ _ _ dX2_below_17 rfl ⟨F, rfl, hF, by rw [if_pos (Or.inl c1)]⟩
  · refine gm_aload_n g dX2_below_8 rfl ?_
    refine gm_iload_n g dX2_below_9 rfl ?_
    refine ob_call (as := [.int w]) (rest := []) G (m_noWire (nI N) (nI C) F w) wX2_noWire rfl npX2_noWire rfl rfl rfl (Nat.le_of_ble_eq_true rfl) dX2_below_10 (fun r S' hp => ?_)
    obtain ⟨rfl, rfl⟩ := hp
    refine gN_if_eq g 18 dX2_below_13 (by decide) (bw_lt _ _) (fun c2 => ?_) (fun c2 => ?_)
    · have hno : ¬ (bw (nI N) v ≠ 0 ∨ bw (nI N) w ≠ 0) := fun h => h.elim (fun h => h c1) (fun h => h c2)
      obtain ⟨a, ha, ev⟩ := bw_in (by omega) c1
      obtain ⟨b, hb, ew⟩ := bw_in (by omega) c2
      subst ev; subst ew
      have ea : (nI a).toNatClampNeg = a := nI_clamp (by omega)
      have eb : (nI b).toNatClampNeg = b := nI_clamp (by omega)
      rw [ea, eb] at ret
      generalize hqe : (fun p => decide (wrun lo hi nsk C (pv p) a < wrun lo hi nsk C (pv p) b)) = q at ret
      have hqs : ∀ p, q p = decide (wrun lo hi nsk C (pv p) a < wrun lo hi nsk C (pv p) b) := fun p => by rw [← hqe]
      have loop : ∀ (f : Nat) (p : List Nat) (F : Nat → Nat → Int32) (many : Nat), vend N f p = true → okp N p → mF F N C lo hi gv → orF F p → many + cnl q (vis N f p) = cnl q (VV N) → gm E 5 (ob_I K2 X (nI N, nI C, F)) [.ref (ob_h X), .int (nI a), .int (nI b), .int (nI many), .int (nI 1)] 27 [] := by
        intro f
        induction f with
        | zero =>
          intro p F many he
          cases he
        | succ f ih =>
          intro p F many he hp hF ho hc
          refine gm_iload g dX2_below_27 rfl ?_
          refine gN_if_eq g 64 dX2_below_29 (by decide) (by decide) (fun c1 => ?_) (fun c1 => ?_)
          · exact absurd c1 (by decide)
          · refine gm_aload_n g dX2_below_32 rfl ?_
            refine gm_iconst (v := -1) g dX2_below_33 (by decide) ?_
            refine ob_callv (as := [.int (-1)]) (rest := []) G (m_pass hN hF (-1) nsk (nsk_ok hC24) (pv p) (orF_v ho hp)) wX2_pass rfl npX2_pass rfl rfl rfl (Nat.le_of_ble_eq_true rfl) dX2_below_34 (fun S' hp => ?_)
            obtain ⟨F1, rfl, hfr1, hw1⟩ := hp
            have hM1 : mF F1 N C lo hi gv := mF_fr (hfr1 0 (by decide)) (hfr1 1 (by decide)) (hfr1 2 (by decide)) hF
            have ho1 : orF F1 p := orF_fr ho (hfr1 3 (by decide))
            refine gm_aload_n g dX2_below_37 rfl ?_
            refine ob_geta G 4 rfl q177 dX2_below_38 ?_
            refine gm_iload_n g dX2_below_41 rfl ?_
            refine ob_iald (v := wrun lo hi nsk C (pv p) a) G 4 rfl dX2_below_42 (by omega) (hw1 a ha) ?_
            refine gm_aload_n g dX2_below_43 rfl ?_
            refine ob_geta G 4 rfl q177 dX2_below_44 ?_
            refine gm_iload_n g dX2_below_47 rfl ?_
            refine ob_iald (v := wrun lo hi nsk C (pv p) b) G 4 rfl dX2_below_48 (by omega) (hw1 b hb) ?_
            have tl : ∀ m' : Nat, m' = many + (q p).toNat → gm E 5 (ob_I K2 X (nI N, nI C, F1)) [.ref (ob_h X), .int (nI a), .int (nI b), .int (nI m'), .int (nI 1)] 55 [] := by
              intro m' hm'
              refine gm_aload_n g dX2_below_55 rfl ?_
              refine ob_call (as := []) (rest := []) G (m_nextOrder (nI C) hN2 hN7 hp ho1) wX2_nextOrder rfl npX2_nextOrder rfl rfl rfl (Nat.le_of_ble_eq_true rfl) dX2_below_56 (fun r S' hp => ?_)
              obtain ⟨F2, rfl, hfr2, ho2, rfl⟩ := hp
              have hM2 : mF F2 N C lo hi gv := mF_fr (hfr2 0 (by decide)) (hfr2 1 (by decide)) (hfr2 2 (by decide)) hM1
              refine gm_istore (lv' := [.ref (ob_h X), .int (nI a), .int (nI b), .int (nI m'), .int (nI ((nxt N p).1.toNat))]) g dX2_below_59 rfl rfl ?_
              refine gm_goto g 27 dX2_below_61 (by decide) ?_
              cases hb : (nxt N p).1 with
              | false =>
                rw [vis_f hb] at hc
                have hc2 : many + ((q p).toNat + 0) = cnl q (VV N) := hc
                refine gm_iload g dX2_below_27 rfl ?_
                refine gN_if_eq g 64 dX2_below_29 (by decide) (by decide) (fun c9 => ?_) (fun c9 => ?_)
                · refine gm_iload_n g dX2_below_64 rfl ?_
                  exact ret _ _ _ _ dX2_below_65 rfl ⟨F2, rfl, hM2, by rw [if_neg hno, hm', ← hc2]; rfl⟩
                · exact absurd rfl c9
              | true =>
                rw [vis_t hb] at hc
                have hc2 : many + ((q p).toNat + cnl q (vis N f (nxt N p).2)) = cnl q (VV N) := hc
                exact ih (nxt N p).2 F2 m' (vend_t hb he) (nxt_ok hN2 hp) hM2 ho2 (by omega)
            refine gm_icmp_ge g 55 dX2_below_49 (by decide) (fun c4 => ?_) (fun c4 => ?_)
            · exact tl _ (by rw [hqs, decide_eq_false (i_nlt.mpr c4)]; rfl)
            · refine gN_iinc (lv' := [.ref (ob_h X), .int (nI a), .int (nI b), .int (nI (many + 1)), .int (nI 1)]) g dX2_below_52 rfl rfl rfl ?_
              exact tl _ (by rw [hqs, decide_eq_true (i_nle.mp c4)]; rfl)
      refine gm_aload_n g dX2_below_18 rfl ?_
      refine ob_callv (as := []) (rest := []) G (m_firstOrder (nI C) F hN7) wX2_firstOrder rfl npX2_firstOrder rfl rfl rfl (Nat.le_of_ble_eq_true rfl) dX2_below_19 (fun S' hp => ?_)
      obtain ⟨F0, rfl, hfr0, ho0⟩ := hp
      refine gm_iconst (v := nI 0) g dX2_below_22 (by decide) ?_
      refine gm_istore_n (lv' := [.ref (ob_h X), .int (nI a), .int (nI b), .int (nI 0)]) g dX2_below_23 rfl rfl ?_
      refine gm_iconst (v := nI 1) g dX2_below_24 (by decide) ?_
      refine gm_istore (lv' := [.ref (ob_h X), .int (nI a), .int (nI b), .int (nI 0), .int (nI 1)]) g dX2_below_25 rfl rfl ?_
      exact loop 5041 (ord0 N) F0 0 hend (ord0_ok hN7) (mF_fr (hfr0 0 (by decide)) (hfr0 1 (by decide)) (hfr0 2 (by decide)) hF) ho0 (by rw [Nat.zero_add]; rfl)
    · refine gm_iconst (v := -1) g dX2_below_16 (by decide) ?_
      exact ret _ _ _ _ dX2_below_17 rfl ⟨F, rfl, hF, by rw [if_pos (Or.inr c2)]⟩
set_option maxHeartbeats 4000000 in
theorem m_same {N C : Nat} {lo hi : Nat → Nat} {gv : Nat → Int32} {F : Nat → Nat → Int32} (hN : ok_net N C lo hi) (hF : mF F N C lo hi gv) {k : Nat} (hk : k < C) {p : List Nat} (hp : okp N p) (ho : orF F p) : ob_Met K2 yX2_same cX2_same 3 (some .boolean) 2 46 [.int (nI k)] (nI N, nI C, F) (fun r S' => ∃ F' : Nat → Nat → Int32, S' = (nI N, nI C, F') ∧ (∀ j, j ≠ 4 → j ≠ 5 → F' j = F j) ∧ r = nI (smb N C lo hi k p).toNat) := by
  refine ob_intro C2 rfl rfl (Nat.le_of_ble_eq_true rfl) ?_
  intro E X G ret
  have g := G.1
  obtain ⟨hN2, hN7, hC24, hnet⟩ := id hN
  obtain ⟨hFc, hFg⟩ := id hF
  refine gm_aload_n g dX2_same_0 rfl ?_
  refine gm_iconst (v := -1) g dX2_same_1 (by decide) ?_
  refine ob_callv (as := [.int (-1)]) (rest := []) G (m_pass hN hF (-1) nsk (nsk_ok hC24) (pv p) (orF_v ho hp)) wX2_pass rfl npX2_pass rfl rfl rfl (Nat.le_of_ble_eq_true rfl) dX2_same_2 (fun S' hp => ?_)
  obtain ⟨F1, rfl, hfr1, hw1⟩ := hp
  have hM1 : mF F1 N C lo hi gv := mF_fr (hfr1 0 (by decide)) (hfr1 1 (by decide)) (hfr1 2 (by decide)) hF
  have ho1 : orF F1 p := orF_fr ho (hfr1 3 (by decide))
  refine gm_iconst (v := nI 0) g dX2_same_5 (by decide) ?_
  refine gm_istore_n (lv' := [.ref (ob_h X), .int (nI k), .int (nI 0)]) g dX2_same_6 rfl rfl ?_
  refine lq1 (A := Nat → Nat → Int32) N (fun i F' => gm E 3 (ob_I K2 X (nI N, nI C, F')) [.ref (ob_h X), .int (nI k), .int (nI i)] 7 []) (fun i F' => (∀ j, j ≠ 5 → F' j = F1 j) ∧ ∀ x, x < i → F' 5 x = wrun lo hi nsk C (pv p) x) ?_ 0 F1 (Nat.zero_le _) ⟨fun _ _ => rfl, fun x hx => absurd hx (Nat.not_lt_zero x)⟩
  intro i F' hle hv ih
  obtain ⟨hfr, h5⟩ := hv
  refine gm_iload_n g dX2_same_7 rfl ?_
  refine gm_aload_n g dX2_same_8 rfl ?_
  refine ob_getn G q171 dX2_same_9 ?_
  refine gN_icmp_ge g 33 dX2_same_12 (by decide) (by omega) (by omega) (fun c3 => ?_) (fun c3 => ?_)
  · have e : i = N := by omega
    rw [e] at h5
    have hM' : mF F' N C lo hi gv := mF_fr (hfr 0 (by decide)) (hfr 1 (by decide)) (hfr 2 (by decide)) hM1
    have ho' : orF F' p := orF_fr ho1 (hfr 3 (by decide))
    refine gm_aload_n g dX2_same_33 rfl ?_
    refine gm_iload_n g dX2_same_34 rfl ?_
    refine ob_callv (as := [.int (nI k)]) (rest := []) G (m_pass hN hM' (nI k) (skp k) (skp_ok hC24 hk) (pv p) (orF_v ho' hp)) wX2_pass rfl npX2_pass rfl rfl rfl (Nat.le_of_ble_eq_true rfl) dX2_same_35 (fun S' hp => ?_)
    obtain ⟨F3, rfl, hfr3, hw3⟩ := hp
    have hM3 : mF F3 N C lo hi gv := mF_fr (hfr3 0 (by decide)) (hfr3 1 (by decide)) (hfr3 2 (by decide)) hM'
    have ho3 : orF F3 p := orF_fr ho' (hfr3 3 (by decide))
    have h6 : ∀ x, x < N → F3 5 x = wrun lo hi nsk C (pv p) x := by rw [hfr3 5 (by decide)]; exact h5
    have hfin : ∀ j, j ≠ 4 → j ≠ 5 → F3 j = F j := fun j h4 h5 => by rw [hfr3 j h4, hfr j h5, hfr1 j h4]
    generalize hf : (fun x => wrun lo hi nsk C (pv p) x == wrun lo hi (skp k) C (pv p) x) = f
    have hsr : smb N C lo hi k p = allq f N := by unfold smb; rw [hf]
    refine gm_iconst (v := nI 0) g dX2_same_38 (by decide) ?_
    refine gm_istore_n (lv' := [.ref (ob_h X), .int (nI k), .int (nI 0)]) g dX2_same_39 rfl rfl ?_
    have key : ∀ x, x ≤ N → allq f x = true → gm E 3 (ob_I K2 X (nI N, nI C, F3)) [.ref (ob_h X), .int (nI k), .int (nI x)] 40 [] := by
      intro x hx
      refine lq0 N (fun x => allq f x = true → gm E 3 (ob_I K2 X (nI N, nI C, F3)) [.ref (ob_h X), .int (nI k), .int (nI x)] 40 []) ?_ x hx
      intro x hx ih2 hq
      refine gm_iload_n g dX2_same_40 rfl ?_
      refine gm_aload_n g dX2_same_41 rfl ?_
      refine ob_getn G q171 dX2_same_42 ?_
      refine gN_icmp_ge g 71 dX2_same_45 (by decide) (by omega) (by omega) (fun c4 => ?_) (fun c4 => ?_)
      · have e2 : x = N := by omega
        refine gm_iconst (v := nI 1) g dX2_same_71 (by decide) ?_
        exact ret _ _ _ _ dX2_same_72 rfl ⟨F3, rfl, hfin, by rw [hsr, ← e2, hq]; rfl⟩
      · refine gm_aload_n g dX2_same_48 rfl ?_
        refine ob_geta G 5 rfl q178 dX2_same_49 ?_
        refine gm_iload_n g dX2_same_52 rfl ?_
        refine ob_iald (v := wrun lo hi nsk C (pv p) x) G 5 rfl dX2_same_53 (by omega) (h6 x c4) ?_
        refine gm_aload_n g dX2_same_54 rfl ?_
        refine ob_geta G 4 rfl q177 dX2_same_55 ?_
        refine gm_iload_n g dX2_same_58 rfl ?_
        refine ob_iald (v := wrun lo hi (skp k) C (pv p) x) G 4 rfl dX2_same_59 (by omega) (hw3 x c4) ?_
        refine gm_icmp_eq g 65 dX2_same_60 (by decide) (fun c5 => ?_) (fun c5 => ?_)
        · refine gN_iinc (lv' := [.ref (ob_h X), .int (nI k), .int (nI (x + 1))]) g dX2_same_65 rfl rfl rfl ?_
          refine gm_goto g 40 dX2_same_68 (by decide) ?_
          exact ih2 c4 (allq_s hq (by rw [← hf]; exact beq_iff_eq.mpr c5))
        · refine gm_iconst (v := nI 0) g dX2_same_63 (by decide) ?_
          exact ret _ _ _ _ dX2_same_64 rfl ⟨F3, rfl, hfin, by rw [hsr, allq_f (x := x) (by rw [← hf]; exact beq_false_of_ne c5) N c4]; rfl⟩
    exact key 0 (Nat.zero_le _) rfl
  · refine gm_aload_n g dX2_same_15 rfl ?_
    refine ob_geta G 5 rfl q178 dX2_same_16 ?_
    refine gm_iload_n g dX2_same_19 rfl ?_
    refine gm_aload_n g dX2_same_20 rfl ?_
    refine ob_geta G 4 rfl q177 dX2_same_21 ?_
    refine gm_iload_n g dX2_same_24 rfl ?_
    refine ob_iald (v := wrun lo hi nsk C (pv p) i) G 4 rfl dX2_same_25 (by omega) (by rw [hfr 4 (by decide)]; exact hw1 i c3) ?_
    refine ob_iast G 5 rfl dX2_same_26 (by omega) ?_
    generalize hF2 : va_up F' 5 (upd (F' 5) i (wrun lo hi nsk C (pv p) i)) = F2
    refine gN_iinc (lv' := [.ref (ob_h X), .int (nI k), .int (nI (i + 1))]) g dX2_same_27 rfl rfl rfl ?_
    refine gm_goto g 7 dX2_same_30 (by decide) ?_
    exact ih c3 F2 ⟨fun j hj => by rw [up_n hF2 hj]; exact hfr j hj, fun x hx => by
      rw [up_s hF2]
      by_cases e : x = i
      · subst e; rw [upd_s]
      · rw [upd_n _ _ e]; exact h5 x (by omega)⟩
set_option maxHeartbeats 4000000 in
theorem m_idle {N C : Nat} {lo hi : Nat → Nat} {gv : Nat → Int32} {F : Nat → Nat → Int32} (hN : ok_net N C lo hi) (hF : mF F N C lo hi gv) (hend : vend N 5041 (ord0 N) = true) : ob_Met K2 yX2_idle cX2_idle 5 (some .int) 3 68 [] (nI N, nI C, F) (fun r S' => ∃ F' : Nat → Nat → Int32, S' = (nI N, nI C, F') ∧ mF F' N C lo hi gv ∧ r = nI (cntq (fun k => alv (smb N C lo hi k) (VV N)) C)) := by
  refine ob_intro C2 rfl rfl (Nat.le_of_ble_eq_true rfl) ?_
  intro E X G ret
  have g := G.1
  obtain ⟨hN2, hN7, hC24, hnet⟩ := id hN
  obtain ⟨hFc, hFg⟩ := id hF
  generalize hgf : (fun k => alv (smb N C lo hi k) (VV N)) = f0 at ret
  have hgs : ∀ k, f0 k = alv (smb N C lo hi k) (VV N) := fun k => by rw [← hgf]
  refine gm_iconst (v := nI 0) g dX2_idle_0 (by decide) ?_
  refine gm_istore_n (lv' := [.ref (ob_h X), .int (nI 0)]) g dX2_idle_1 rfl rfl ?_
  refine gm_iconst (v := nI 0) g dX2_idle_2 (by decide) ?_
  refine gm_istore_n (lv' := [.ref (ob_h X), .int (nI 0), .int (nI 0)]) g dX2_idle_3 rfl rfl ?_
  refine lq1 (A := Nat → Nat → Int32) C (fun k F' => gm E 5 (ob_I K2 X (nI N, nI C, F')) [.ref (ob_h X), .int (nI (cntq f0 k)), .int (nI k)] 4 []) (fun k F' => mF F' N C lo hi gv) ?_ 0 F (Nat.zero_le _) hF
  intro k F' hk hM ih
  have hcl := cntq_le f0 k
  refine gm_iload_n g dX2_idle_4 rfl ?_
  refine gm_aload_n g dX2_idle_5 rfl ?_
  refine ob_getc G q172 dX2_idle_6 ?_
  refine gN_icmp_ge g 58 dX2_idle_9 (by decide) (by omega) (by omega) (fun c1 => ?_) (fun c1 => ?_)
  · have e : k = C := by omega
    subst e
    refine gm_iload_n g dX2_idle_58 rfl ?_
    exact ret _ _ _ _ dX2_idle_59 rfl ⟨F', rfl, hM, rfl⟩
  · have out : ∀ (F : Nat → Nat → Int32) (bb : Bool), mF F N C lo hi gv → bb = alv (smb N C lo hi k) (VV N) → gm E 5 (ob_I K2 X (nI N, nI C, F)) [.ref (ob_h X), .int (nI (cntq f0 k)), .int (nI k), .int (nI bb.toNat)] 45 [] := by
      intro F bb hF hbb
      rw [← hgs] at hbb
      have tl : ∀ m' : Nat, m' = cntq f0 (k + 1) → gm E 5 (ob_I K2 X (nI N, nI C, F)) [.ref (ob_h X), .int (nI m'), .int (nI k)] 52 [] := by
        intro m' hm'
        subst hm'
        refine gN_iinc (lv' := [.ref (ob_h X), .int (nI (cntq f0 (k + 1))), .int (nI (k + 1))]) g dX2_idle_52 rfl rfl rfl ?_
        refine gm_goto g 4 dX2_idle_55 (by decide) ?_
        exact ih c1 F hF
      refine gm_iload_n g dX2_idle_45 rfl ?_
      refine gN_if_eq g 52 dX2_idle_46 (by decide) (bt_lt _) (fun c2 => ?_) (fun c2 => ?_)
      · refine gm_take 3 rfl ?_
        exact tl _ (by show _ = cntq f0 k + (f0 k).toNat; rw [← hbb, c2]; rfl)
      · refine gN_iinc (lv' := [.ref (ob_h X), .int (nI ((cntq f0 k) + 1)), .int (nI k), .int (nI bb.toNat)]) g dX2_idle_49 rfl rfl rfl ?_
        refine gm_take 3 rfl ?_
        exact tl _ (by show _ = cntq f0 k + (f0 k).toNat; rw [← hbb, show bb = true from by revert c2; cases bb <;> simp]; rfl)
    have loop : ∀ (f : Nat) (p : List Nat) (F : Nat → Nat → Int32), vend N f p = true → okp N p → mF F N C lo hi gv → orF F p → alv (smb N C lo hi k) (vis N f p) = alv (smb N C lo hi k) (VV N) → gm E 5 (ob_I K2 X (nI N, nI C, F)) [.ref (ob_h X), .int (nI (cntq f0 k)), .int (nI k), .int (nI 1), .int (nI 1)] 21 [] := by
      intro f
      induction f with
      | zero =>
        intro p F he
        cases he
      | succ f ih2 =>
        intro p F he hp hF ho hc
        refine gm_iload g dX2_idle_21 rfl ?_
        refine gN_if_eq g 45 dX2_idle_23 (by decide) (by decide) (fun c2 => ?_) (fun c2 => ?_)
        · exact absurd c2 (by decide)
        · refine gm_iload_n g dX2_idle_26 rfl ?_
          refine gN_if_eq g 45 dX2_idle_27 (by decide) (by decide) (fun c3 => ?_) (fun c3 => ?_)
          · exact absurd c3 (by decide)
          · refine gm_aload_n g dX2_idle_30 rfl ?_
            refine gm_iload_n g dX2_idle_31 rfl ?_
            refine ob_call (as := [.int (nI k)]) (rest := []) G (m_same hN hF c1 hp ho) wX2_same rfl npX2_same rfl rfl rfl (Nat.le_of_ble_eq_true rfl) dX2_idle_32 (fun r S' hp => ?_)
            obtain ⟨F1, rfl, hfr1, rfl⟩ := hp
            have hM1 : mF F1 N C lo hi gv := mF_fr (hfr1 0 (by decide) (by decide)) (hfr1 1 (by decide) (by decide)) (hfr1 2 (by decide) (by decide)) hF
            have ho1 : orF F1 p := orF_fr ho (hfr1 3 (by decide) (by decide))
            refine gm_istore_n (lv' := [.ref (ob_h X), .int (nI (cntq f0 k)), .int (nI k), .int (nI ((smb N C lo hi k p).toNat)), .int (nI 1)]) g dX2_idle_35 rfl rfl ?_
            refine gm_aload_n g dX2_idle_36 rfl ?_
            refine ob_call (as := []) (rest := []) G (m_nextOrder (nI C) hN2 hN7 hp ho1) wX2_nextOrder rfl npX2_nextOrder rfl rfl rfl (Nat.le_of_ble_eq_true rfl) dX2_idle_37 (fun r S' hp => ?_)
            obtain ⟨F2, rfl, hfr2, ho2, rfl⟩ := hp
            have hM2 : mF F2 N C lo hi gv := mF_fr (hfr2 0 (by decide)) (hfr2 1 (by decide)) (hfr2 2 (by decide)) hM1
            refine gm_istore (lv' := [.ref (ob_h X), .int (nI (cntq f0 k)), .int (nI k), .int (nI ((smb N C lo hi k p).toNat)), .int (nI ((nxt N p).1.toNat))]) g dX2_idle_40 rfl rfl ?_
            refine gm_goto g 21 dX2_idle_42 (by decide) ?_
            cases hb : (nxt N p).1 with
            | false =>
              rw [vis_f hb] at hc
              refine gm_iload g dX2_idle_21 rfl ?_
              refine gN_if_eq g 45 dX2_idle_23 (by decide) (by decide) (fun c9 => ?_) (fun c9 => ?_)
              · refine gm_take 4 rfl ?_
                exact out F2 _ hM2 (by rw [← hc]; show _ = (smb N C lo hi k p && true); rw [Bool.and_true])
              · exact absurd rfl c9
            | true =>
              rw [vis_t hb] at hc
              have hc2 : (smb N C lo hi k p && alv (smb N C lo hi k) (vis N f (nxt N p).2)) = alv (smb N C lo hi k) (VV N) := hc
              cases hs : smb N C lo hi k p with
              | false =>
                rw [hs] at hc2
                refine gm_iload g dX2_idle_21 rfl ?_
                refine gN_if_eq g 45 dX2_idle_23 (by decide) (by decide) (fun c8 => ?_) (fun c8 => ?_)
                · exact absurd c8 (by decide)
                · refine gm_iload_n g dX2_idle_26 rfl ?_
                  refine gN_if_eq g 45 dX2_idle_27 (by decide) (by decide) (fun c7 => ?_) (fun c7 => ?_)
                  · refine gm_take 4 rfl ?_
                    exact out F2 false hM2 (by rw [← hc2]; rfl)
                  · exact absurd rfl c7
              | true =>
                rw [hs] at hc2
                exact ih2 (nxt N p).2 F2 (vend_t hb he) (nxt_ok hN2 hp) hM2 ho2 (by rw [← hc2]; rfl)
    refine gm_aload_n g dX2_idle_12 rfl ?_
    refine ob_callv (as := []) (rest := []) G (m_firstOrder (nI C) F' hN7) wX2_firstOrder rfl npX2_firstOrder rfl rfl rfl (Nat.le_of_ble_eq_true rfl) dX2_idle_13 (fun S' hp => ?_)
    obtain ⟨F0, rfl, hfr0, ho0⟩ := hp
    refine gm_iconst (v := nI 1) g dX2_idle_16 (by decide) ?_
    refine gm_istore_n (lv' := [.ref (ob_h X), .int (nI (cntq f0 k)), .int (nI k), .int (nI 1)]) g dX2_idle_17 rfl rfl ?_
    refine gm_iconst (v := nI 1) g dX2_idle_18 (by decide) ?_
    refine gm_istore (lv' := [.ref (ob_h X), .int (nI (cntq f0 k)), .int (nI k), .int (nI 1), .int (nI 1)]) g dX2_idle_19 rfl rfl ?_
    exact loop 5041 (ord0 N) F0 hend (ord0_ok hN7) (mF_fr (hfr0 0 (by decide)) (hfr0 1 (by decide)) (hfr0 2 (by decide)) hM) ho0 rfl
end
section
/-! all orders, and all chains of sets: what the kernel counts -/
set_option maxRecDepth 100000
def tmL : List Nat → Nat → Nat
  | [], _ => 0
  | a :: r, j => (if j < a then 1 else 0) + 2 * tmL r j
def chainF (T : Nat → Nat) : Nat → Nat → List Nat
  | i, 0 => [T i]
  | i, n + 1 => T i :: chainF T (i + 1) n
def bits (N s : Nat) : List Nat := (List.range N).filter (fun w => s / 2 ^ w % 2 == 1)
def chl (N : Nat) : Nat → Nat → List (List Nat)
  | 0, s => [[s]]
  | m + 1, s => (bits N s).flatMap (fun w => (chl N m (s ^^^ 2 ^ w)).map (fun l => s :: l))
def lge : List Nat → List Nat → Bool
  | [], _ => true
  | _ :: _, [] => true
  | a :: r, b :: t => if a = b then lge r t else Nat.ble b a
def mrgA {α : Type} (le : α → α → Bool) (a : α) (rc : List α → List α) : List α → List α
  | [] => a :: rc []
  | b :: l => if le a b = true then a :: rc (b :: l) else b :: mrgA le a rc l
def mrg {α : Type} (le : α → α → Bool) : List α → List α → List α
  | [] => fun l => l
  | a :: r => mrgA le a (mrg le r)
def spl {α : Type} : List α → List α × List α
  | [] => ([], [])
  | a :: r => (a :: (spl r).2, (spl r).1)
def mso {α : Type} (le : α → α → Bool) : Nat → List α → List α
  | 0, l => l
  | f + 1, l => mrg le (mso le f (spl l).1) (mso le f (spl l).2)
def cd (N s t : Nat) : Nat := t * N + Nat.log2 (s ^^^ t)
def prs (N : Nat) : List Nat → List Nat
  | [] => []
  | s :: r => (match r with | [] => [] | t :: _ => [cd N s t]) ++ prs N r
def mult (N k : Nat) : Nat := if k / N / 2 ^ (k % N) % 2 = 0 then ord N (k / N) else 0
/-- a chain: each set is the next and one wire more; sizes fall by one -/
def chk (N : Nat) : List Nat → Nat → Bool
  | [], _ => true
  | s :: r, j => Nat.blt s (2 ^ N) && (szo s N == N - j) && (match r with | [] => true | t :: _ => Nat.blt (Nat.log2 (s ^^^ t)) N && (s == t ||| 2 ^ Nat.log2 (s ^^^ t)) && (t / 2 ^ Nat.log2 (s ^^^ t) % 2 == 0)) && chk N r (j + 1)
def okv (N : Nat) (p : List Nat) : Bool := (p.length == N) && p.all (fun a => Nat.ble 1 a && Nat.ble a N)
theorem vend_2 : vend 2 5041 (ord0 2) = true := by decide +kernel
theorem vend_5 : vend 5 5041 (ord0 5) = true := by decide +kernel
theorem vend_6 : vend 6 5041 (ord0 6) = true := by decide +kernel
end
section
/-! the plain law: counts over sets are counts over orders -/
set_option maxRecDepth 100000
def lsum {α : Type} (f : α → Nat) : List α → Nat
  | [] => 0
  | a :: l => f a + lsum f l
theorem lsum_perm {α : Type} (f : α → Nat) {l1 l2 : List α} (h : l1.Perm l2) : lsum f l1 = lsum f l2 := by
  induction h with
  | nil => rfl
  | cons a _ ih => show f a + _ = f a + _; rw [ih]
  | swap a b l => show f b + (f a + _) = f a + (f b + _); omega
  | trans _ _ ih1 ih2 => exact ih1.trans ih2
theorem lsum_app {α : Type} (f : α → Nat) (l1 l2 : List α) : lsum f (l1 ++ l2) = lsum f l1 + lsum f l2 := by
  induction l1 with
  | nil => show _ = 0 + _; rw [Nat.zero_add]; rfl
  | cons a l ih => show f a + lsum f (l ++ l2) = (f a + lsum f l) + lsum f l2; rw [ih]; omega
theorem lsum_map {α β : Type} (f : β → Nat) (g : α → β) (l : List α) : lsum f (l.map g) = lsum (fun a => f (g a)) l := by
  induction l with
  | nil => rfl
  | cons a l ih => show f (g a) + lsum f (l.map g) = _ + _; rw [ih]
theorem lsum_flat {α β : Type} (f : β → Nat) (g : α → List β) (l : List α) : lsum f (l.flatMap g) = lsum (fun a => lsum f (g a)) l := by
  induction l with
  | nil => rfl
  | cons a l ih => rw [List.flatMap_cons, lsum_app, ih]; rfl
theorem lsum_rep {α : Type} (f : α → Nat) (n : Nat) (a : α) : lsum f (List.replicate n a) = n * f a := by
  induction n with
  | zero => rw [Nat.zero_mul]; rfl
  | succ n ih => rw [List.replicate_succ]; show f a + _ = _; rw [ih, Nat.succ_mul]; omega
theorem lsum_range (f : Nat → Nat) : ∀ n, lsum f (List.range n) = sumf f n := by
  intro n
  induction n with
  | zero => rfl
  | succ n ih => rw [List.range_succ, lsum_app, ih]; rfl
theorem lsum_congr {α : Type} {f g : α → Nat} {l : List α} (h : ∀ a ∈ l, f a = g a) : lsum f l = lsum g l := by
  induction l with
  | nil => rfl
  | cons a l ih =>
    show f a + _ = g a + _
    rw [h a List.mem_cons_self, ih (fun b hb => h b (List.mem_cons_of_mem _ hb))]
theorem cnl_lsum (q : List Nat → Bool) : ∀ l, cnl q l = lsum (fun p => (q p).toNat) l := by
  intro l
  induction l with
  | nil => rfl
  | cons p l ih => show _ + _ = _ + _; rw [ih]
theorem sumf_congr {f g : Nat → Nat} : ∀ n, (∀ k, k < n → f k = g k) → sumf f n = sumf g n := by
  intro n
  induction n with
  | zero => intro _; rfl
  | succ n ih => intro h; show _ + _ = _ + _; rw [ih (fun k hk => h k (by omega)), h n (by omega)]
/-- bits -/
theorem tb (s i : Nat) : (s / 2 ^ i % 2 = 1) ↔ s.testBit i = true := by
  rw [← Nat.toNat_testBit]
  cases s.testBit i <;> simp
theorem tb0 (s i : Nat) : (s / 2 ^ i % 2 = 0) ↔ s.testBit i = false := by
  rw [← Nat.toNat_testBit]
  cases s.testBit i <;> simp
theorem bsw_bit {i j : Nat} (hij : i ≠ j) (s x : Nat) : (bsw i j s).testBit x = if s.testBit i = true ∧ s.testBit j = false then (if x = i then false else if x = j then true else s.testBit x) else s.testBit x := by
  unfold bsw
  rw [← Nat.toNat_testBit, ← Nat.toNat_testBit]
  by_cases h : s.testBit i = true ∧ s.testBit j = false
  · rw [if_pos h, h.1, h.2, if_pos (by decide), Nat.testBit_xor, Nat.testBit_or, Nat.testBit_two_pow, Nat.testBit_two_pow]
    by_cases e1 : x = i
    · subst e1
      rw [if_pos rfl, h.1]
      simp
    · rw [if_neg e1]
      by_cases e2 : x = j
      · subst e2
        rw [if_pos rfl, h.2]
        simp
      · rw [if_neg e2]
        simp [Ne.symm e1, Ne.symm e2, show ¬ i = x from fun e => e1 e.symm, show ¬ j = x from fun e => e2 e.symm]
  · rw [if_neg h, if_neg]
    intro q
    apply h
    revert q
    cases s.testBit i <;> cases s.testBit j <;> simp
/-- the wires with more than t -/
def thm (t : Int32) : (Nat → Int32) → Nat → Nat
  | _, 0 => 0
  | v, n + 1 => (if t < v 0 then 1 else 0) + 2 * thm t (fun x => v (x + 1)) n
theorem thm_bit (t : Int32) : ∀ (n : Nat) (v : Nat → Int32) (x : Nat), (thm t v n).testBit x = decide (x < n ∧ t < v x) := by
  intro n
  induction n with
  | zero =>
    intro v x
    show (0 : Nat).testBit x = _
    rw [Nat.zero_testBit]
    exact (decide_eq_false (fun h => by omega)).symm
  | succ n ih =>
    intro v x
    show ((if t < v 0 then 1 else 0) + 2 * thm t (fun x => v (x + 1)) n).testBit x = _
    cases x with
    | zero =>
      rw [Nat.testBit_zero]
      by_cases h : t < v 0
      · rw [if_pos h]
        rw [decide_eq_true (show (1 + 2 * thm t (fun x => v (x + 1)) n) % 2 = 1 by omega)]
        exact (decide_eq_true ⟨by omega, h⟩).symm
      · rw [if_neg h]
        rw [decide_eq_false (show ¬ (0 + 2 * thm t (fun x => v (x + 1)) n) % 2 = 1 by omega)]
        exact (decide_eq_false (fun q => h q.2)).symm
    | succ x =>
      rw [Nat.testBit_succ]
      have e : ((if t < v 0 then 1 else 0) + 2 * thm t (fun x => v (x + 1)) n) / 2 = thm t (fun x => v (x + 1)) n := by
        split <;> omega
      rw [e, ih]
      by_cases h : x < n ∧ t < v (x + 1)
      · rw [decide_eq_true h]
        exact (decide_eq_true ⟨by omega, h.2⟩).symm
      · rw [decide_eq_false h]
        exact (decide_eq_false (fun q => h ⟨by omega, q.2⟩)).symm
theorem thm_lt (t : Int32) : ∀ (n : Nat) (v : Nat → Int32), thm t v n < 2 ^ n := by
  intro n
  induction n with
  | zero => intro v; exact Nat.one_pos
  | succ n ih =>
    intro v
    have := ih (fun x => v (x + 1))
    show (if t < v 0 then 1 else 0) + 2 * thm t (fun x => v (x + 1)) n < 2 ^ (n + 1)
    rw [Nat.pow_succ]
    split <;> omega
theorem thm_cm {N i j : Nat} {t : Int32} {v : Nat → Int32} (hi : i < N) (hj : j < N) (hij : i ≠ j) : thm t (cmI i j v) N = bsw i j (thm t v N) := by
  apply Nat.eq_of_testBit_eq
  intro x
  rw [thm_bit, bsw_bit hij, thm_bit, thm_bit, thm_bit]
  unfold cmI
  by_cases c : v j < v i
  · rw [if_pos c]
    by_cases h : t < v i ∧ ¬ t < v j
    · rw [if_pos ⟨decide_eq_true ⟨hi, h.1⟩, decide_eq_false (fun q => h.2 q.2)⟩]
      by_cases e1 : x = i
      · subst e1
        rw [if_pos rfl, upd_n _ _ hij, upd_s]
        exact decide_eq_false (fun q => h.2 q.2)
      · rw [if_neg e1]
        by_cases e2 : x = j
        · subst e2
          rw [if_pos rfl, upd_s]
          exact decide_eq_true ⟨hj, h.1⟩
        · rw [if_neg e2, upd_n _ _ e2, upd_n _ _ e1]
    · rw [if_neg (fun q => h ⟨(of_decide_eq_true q.1).2, fun z => of_decide_eq_false q.2 ⟨hj, z⟩⟩)]
      have same : t < v i ↔ t < v j := ⟨fun a => Classical.byContradiction fun b => h ⟨a, b⟩, fun a => Int32.lt_trans a c⟩
      by_cases e2 : x = j
      · subst e2
        rw [upd_s]
        exact decide_eq_decide.mpr ⟨fun q => ⟨q.1, same.mp q.2⟩, fun q => ⟨q.1, same.mpr q.2⟩⟩
      · rw [upd_n _ _ e2]
        by_cases e1 : x = i
        · subst e1
          rw [upd_s]
          exact decide_eq_decide.mpr ⟨fun q => ⟨q.1, same.mpr q.2⟩, fun q => ⟨q.1, same.mp q.2⟩⟩
        · rw [upd_n _ _ e1]
  · rw [if_neg c, if_neg]
    intro q
    have h1 := (of_decide_eq_true q.1).2
    have h2 : ¬ t < v j := fun z => of_decide_eq_false q.2 ⟨hj, z⟩
    exact h2 (Int32.lt_of_lt_of_le h1 (i_nlt.mp c))
theorem thm_run {N C : Nat} {lo hi : Nat → Nat} (sk : Nat → Bool) (hn : ∀ k, k < C → lo k < N ∧ hi k < N ∧ lo k ≠ hi k) (t : Int32) (v : Nat → Int32) : ∀ k, k ≤ C → thm t (wrun lo hi sk k v) N = zrun lo hi sk k (thm t v N) := by
  intro k
  induction k with
  | zero => intro _; rfl
  | succ k ih =>
    intro hk
    rw [wrun_k, zrun_s]
    have h := hn k (by omega)
    by_cases q : sk k = true
    · rw [if_pos q, if_pos q]; exact ih (by omega)
    · rw [if_neg q, if_neg q, thm_cm h.1 h.2.1 h.2.2, ih (by omega)]
/-- what is on a wire was on some wire -/
theorem wrun_mem {N C : Nat} {lo hi : Nat → Nat} (sk : Nat → Bool) (hn : ∀ k, k < C → lo k < N ∧ hi k < N ∧ lo k ≠ hi k) (v : Nat → Int32) : ∀ k, k ≤ C → ∀ x, x < N → ∃ y, y < N ∧ wrun lo hi sk k v x = v y := by
  intro k
  induction k with
  | zero => intro _ x hx; exact ⟨x, hx, rfl⟩
  | succ k ih =>
    intro hk x hx
    rw [wrun_k]
    have h := hn k (by omega)
    have ih := ih (by omega)
    by_cases q : sk k = true
    · rw [if_pos q]; exact ih x hx
    · rw [if_neg q]
      unfold cmI
      split
      · by_cases e : x = hi k
        · rw [e, upd_s]; exact ih _ h.1
        · rw [upd_n _ _ e]
          by_cases e2 : x = lo k
          · rw [e2, upd_s]; exact ih _ h.2.1
          · rw [upd_n _ _ e2]; exact ih x hx
      · exact ih x hx
theorem thm_tmL (j : Nat) (hj : j < 2147483648) : ∀ p : List Nat, (∀ x, p.getD x 0 < 2147483648) → thm (nI j) (pv p) p.length = tmL p j := by
  intro p
  induction p with
  | nil => intro _; rfl
  | cons a r ih =>
    intro h
    show (if nI j < pv (a :: r) 0 then 1 else 0) + 2 * thm (nI j) (fun x => pv (a :: r) (x + 1)) r.length = (if j < a then 1 else 0) + 2 * tmL r j
    have h0 : a < 2147483648 := h 0
    have e : (fun x => pv (a :: r) (x + 1)) = pv r := by funext x; rfl
    rw [e, ih (fun x => h (x + 1))]
    have e2 : (nI j < pv (a :: r) 0) ↔ j < a := nI_ltI hj h0
    by_cases q : j < a
    · rw [if_pos q, if_pos (e2.mpr q)]
    · rw [if_neg q, if_neg (fun z => q (e2.mp z))]
theorem okv_spec {N : Nat} (hN : N ≤ 7) {p : List Nat} (h : okv N p = true) : okp N p ∧ ∀ x, x < N → 1 ≤ p.getD x 0 ∧ p.getD x 0 ≤ N := by
  unfold okv at h
  simp only [Bool.and_eq_true, beq_iff_eq, List.all_eq_true] at h
  obtain ⟨h1, h2⟩ := h
  have key : ∀ x, x < N → 1 ≤ p.getD x 0 ∧ p.getD x 0 ≤ N := by
    intro x hx
    have hl : x < p.length := by omega
    have hm := h2 _ (List.getElem_mem hl)
    rw [List.getD_eq_getElem?_getD, List.getElem?_eq_getElem hl]
    show 1 ≤ p[x] ∧ p[x] ≤ N
    exact ⟨Nat.le_of_ble_eq_true hm.1, Nat.le_of_ble_eq_true hm.2⟩
  refine ⟨⟨h1, fun x => ?_⟩, key⟩
  by_cases hx : x < N
  · have := (key x hx).2; omega
  · rw [List.getD_eq_getElem?_getD, List.getElem?_eq_none (by omega)]; decide
end
section
/-! the plain law, second half -/
set_option maxRecDepth 100000
/-- what the kernel counts, for a number of wires -/
def KF (N : Nat) : Prop := vend N 5041 (ord0 N) = true ∧ ((VV N).map (fun p => chainF (tmL p) 0 N)).Perm (chl N N (2 ^ N - 1)) ∧ (∀ g : Nat → Nat, lsum (fun l => lsum g (prs N l)) (chl N N (2 ^ N - 1)) = sumf (fun k => mult N k * g k) (N * 2 ^ N)) ∧ (∀ p ∈ VV N, chk N (chainF (tmL p) 0 N) 0 = true ∧ okv N p = true) ∧ (VV N).length = fac N
theorem chainF_c (T : Nat → Nat) (i n : Nat) : ∃ r, chainF T i n = T i :: r := by
  cases n with
  | zero => exact ⟨[], rfl⟩
  | succ n => exact ⟨_, rfl⟩
/-- a chain's step at j -/
def chs (N : Nat) (T : Nat → Nat) (j : Nat) : Prop := Nat.log2 (T j ^^^ T (j + 1)) < N ∧ T j = T (j + 1) ||| 2 ^ Nat.log2 (T j ^^^ T (j + 1)) ∧ T (j + 1) / 2 ^ Nat.log2 (T j ^^^ T (j + 1)) % 2 = 0
theorem chk_spec {N : Nat} {T : Nat → Nat} : ∀ (n i : Nat), chk N (chainF T i n) i = true → (∀ d, d ≤ n → T (i + d) < 2 ^ N ∧ szo (T (i + d)) N = N - (i + d)) ∧ ∀ d, d < n → chs N T (i + d) := by
  intro n
  induction n with
  | zero =>
    intro i h
    have h : (Nat.blt (T i) (2 ^ N) && (szo (T i) N == N - i) && true && true) = true := h
    simp only [Bool.and_eq_true, beq_iff_eq, Bool.and_true] at h
    refine ⟨fun d hd => ?_, fun d hd => absurd hd (Nat.not_lt_zero d)⟩
    have e : d = 0 := by omega
    subst e
    exact ⟨by simpa [Nat.blt_eq] using h.1, h.2⟩
  | succ n ih =>
    intro i h
    obtain ⟨r, hr⟩ := chainF_c T (i + 1) n
    have h : chk N (T i :: chainF T (i + 1) n) i = true := h
    rw [hr] at h
    have h : (Nat.blt (T i) (2 ^ N) && (szo (T i) N == N - i) && (Nat.blt (Nat.log2 (T i ^^^ T (i + 1))) N && (T i == T (i + 1) ||| 2 ^ Nat.log2 (T i ^^^ T (i + 1))) && (T (i + 1) / 2 ^ Nat.log2 (T i ^^^ T (i + 1)) % 2 == 0)) && chk N (T (i + 1) :: r) (i + 1)) = true := h
    rw [← hr] at h
    rw [Bool.and_eq_true] at h
    obtain ⟨h1, h2⟩ := h
    simp only [Bool.and_eq_true, beq_iff_eq] at h1
    obtain ⟨i1, i2⟩ := ih (i + 1) h2
    refine ⟨fun d hd => ?_, fun d hd => ?_⟩
    · cases d with
      | zero => exact ⟨by simpa [Nat.blt_eq] using h1.1.1, h1.1.2⟩
      | succ d =>
        have := i1 d (by omega)
        rw [show i + (d + 1) = i + 1 + d by omega]
        exact this
    · cases d with
      | zero => exact ⟨by simpa [Nat.blt_eq] using h1.2.1.1, h1.2.1.2, h1.2.2⟩
      | succ d =>
        have := i2 d (by omega)
        rw [show i + (d + 1) = i + 1 + d by omega]
        exact this
def sumg (h : Nat → Nat) : Nat → Nat → Nat
  | _, 0 => 0
  | i, n + 1 => h i + sumg h (i + 1) n
theorem prs_s (N : Nat) (T : Nat → Nat) (i n : Nat) : prs N (chainF T i (n + 1)) = cd N (T i) (T (i + 1)) :: prs N (chainF T (i + 1) n) := by
  cases n <;> rfl
theorem prs_sum (N : Nat) (g : Nat → Nat) (T : Nat → Nat) : ∀ n i, lsum g (prs N (chainF T i n)) = sumg (fun j => g (cd N (T j) (T (j + 1)))) i n := by
  intro n
  induction n with
  | zero => intro i; rfl
  | succ n ih =>
    intro i
    rw [prs_s]
    show g _ + lsum g _ = g _ + sumg _ _ _
    rw [ih]
theorem prs_mem {N k : Nat} {T : Nat → Nat} : ∀ n i, k ∈ prs N (chainF T i n) → ∃ j, i ≤ j ∧ j < i + n ∧ k = cd N (T j) (T (j + 1)) := by
  intro n
  induction n with
  | zero => intro i h; cases h
  | succ n ih =>
    intro i h
    rw [prs_s] at h
    rcases List.mem_cons.mp h with e | e
    · exact ⟨i, Nat.le_refl i, by omega, e⟩
    · obtain ⟨j, h1, h2, h3⟩ := ih (i + 1) e
      exact ⟨j, by omega, by omega, h3⟩
theorem sumg_0 {h : Nat → Nat} : ∀ n i, (∀ j, i ≤ j → j < i + n → h j = 0) → sumg h i n = 0 := by
  intro n
  induction n with
  | zero => intro i _; rfl
  | succ n ih =>
    intro i hh
    show h i + sumg h (i + 1) n = 0
    rw [hh i (Nat.le_refl i) (by omega), ih (i + 1) (fun j h1 h2 => hh j (by omega) (by omega))]
theorem sumg_1 {h : Nat → Nat} {j0 : Nat} : ∀ n i, i ≤ j0 → j0 < i + n → (∀ j, i ≤ j → j < i + n → j ≠ j0 → h j = 0) → sumg h i n = h j0 := by
  intro n
  induction n with
  | zero => intro i h1 h2; omega
  | succ n ih =>
    intro i h1 h2 hh
    show h i + sumg h (i + 1) n = h j0
    by_cases e : i = j0
    · subst e
      rw [sumg_0 n (i + 1) (fun j h3 h4 => hh j (by omega) (by omega) (by omega))]
      omega
    · rw [hh i (Nat.le_refl i) (by omega) e, ih (i + 1) (by omega) (by omega) (fun j h3 h4 h5 => hh j (by omega) (by omega) h5)]
      omega
theorem chain_all (gd : Nat → Bool) (T : Nat → Nat) : ∀ n i, (chainF T i n).all gd = true ↔ ∀ d, d ≤ n → gd (T (i + d)) = true := by
  intro n
  induction n with
  | zero =>
    intro i
    show ([T i].all gd) = true ↔ _
    simp only [List.all_cons, List.all_nil, Bool.and_true]
    constructor
    · intro h d hd
      rw [show d = 0 by omega]
      exact h
    · intro h; exact h 0 (Nat.le_refl 0)
  | succ n ih =>
    intro i
    show ((T i :: chainF T (i + 1) n).all gd) = true ↔ _
    rw [List.all_cons, Bool.and_eq_true, ih]
    constructor
    · rintro ⟨h1, h2⟩ d hd
      cases d with
      | zero => exact h1
      | succ d => rw [show i + (d + 1) = i + 1 + d by omega]; exact h2 d (by omega)
    · intro h
      exact ⟨h 0 (by omega), fun d hd => by rw [show i + 1 + d = i + (d + 1) by omega]; exact h (d + 1) (by omega)⟩
theorem pair_sum {N : Nat} (K : KF N) (g : Nat → Nat) : lsum (fun p => lsum g (prs N (chainF (tmL p) 0 N))) (VV N) = sumf (fun k => mult N k * g k) (N * 2 ^ N) := by
  have h1 := lsum_perm (fun l => lsum g (prs N l)) K.2.1
  rw [lsum_map] at h1
  rw [h1, K.2.2.1 g]
theorem lsum_pos {α : Type} {f : α → Nat} : ∀ {l : List α}, 0 < lsum f l → ∃ a ∈ l, 0 < f a := by
  intro l
  induction l with
  | nil => intro h; exact absurd h (Nat.lt_irrefl 0)
  | cons a l ih =>
    intro h
    have h : 0 < f a + lsum f l := h
    by_cases q : 0 < f a
    · exact ⟨a, List.mem_cons_self, q⟩
    · obtain ⟨b, hb, hq⟩ := ih (by omega)
      exact ⟨b, List.mem_cons_of_mem _ hb, hq⟩
theorem sumf_ge {f : Nat → Nat} {k : Nat} : ∀ n, k < n → f k ≤ sumf f n := by
  intro n
  induction n with
  | zero => intro h; omega
  | succ n ih =>
    intro h
    show f k ≤ sumf f n + f n
    by_cases e : k = n
    · subst e; omega
    · have := ih (by omega)
      omega
theorem cd_dm {N s t : Nat} (h : Nat.log2 (s ^^^ t) < N) : cd N s t / N = t ∧ cd N s t % N = Nat.log2 (s ^^^ t) := by
  unfold cd
  refine ⟨?_, ?_⟩
  · rw [Nat.mul_comm, Nat.mul_add_div (by omega), Nat.div_eq_of_lt h]; omega
  · rw [Nat.mul_comm, Nat.mul_add_mod, Nat.mod_eq_of_lt h]
section ORD
variable {N C : Nat} {lo hi : Nat → Nat}
theorem ov_in (hN : ok_net N C lo hi) (K : KF N) (sk : Nat → Bool) {k : Nat} (hk : k ≤ C) {p : List Nat} (hp : p ∈ VV N) {x : Nat} (hx : x < N) : ∃ m, 1 ≤ m ∧ m ≤ N ∧ wrun lo hi sk k (pv p) x = nI m := by
  obtain ⟨y, hy, e⟩ := wrun_mem sk hN.2.2.2 (pv p) k hk x hx
  have h := (okv_spec hN.2.1 (K.2.2.2.1 p hp).2).2 y hy
  exact ⟨p.getD y 0, h.1, h.2, e⟩
theorem z_thm (hN : ok_net N C lo hi) (K : KF N) (sk : Nat → Bool) {k : Nat} (hk : k ≤ C) {p : List Nat} (hp : p ∈ VV N) {j : Nat} (hj : j ≤ N) : zrun lo hi sk k (tmL p j) = thm (nI j) (wrun lo hi sk k (pv p)) N := by
  have h := (okv_spec hN.2.1 (K.2.2.2.1 p hp).2).1
  have hN7 := hN.2.1
  rw [thm_run sk hN.2.2.2 (nI j) (pv p) k hk]
  have e := thm_tmL j (by omega) p h.2
  rw [h.1] at e
  rw [e]
theorem z_bit (hN : ok_net N C lo hi) (K : KF N) (sk : Nat → Bool) {k : Nat} (hk : k ≤ C) {p : List Nat} (hp : p ∈ VV N) {j x m : Nat} (hj : j ≤ N) (hx : x < N) (hm : wrun lo hi sk k (pv p) x = nI m) (hmN : m ≤ N) : zrun lo hi sk k (tmL p j) / 2 ^ x % 2 = if j < m then 1 else 0 := by
  have hN7 := hN.2.1
  rw [← Nat.toNat_testBit, z_thm hN K sk hk hp hj, thm_bit, hm]
  by_cases q : j < m
  · rw [if_pos q, decide_eq_true ⟨hx, (nI_ltI (by omega) (by omega)).mpr q⟩]; rfl
  · rw [if_neg q, decide_eq_false (fun h => q ((nI_ltI (by omega) (by omega)).mp h.2))]; rfl
theorem ranks_eq (hN : ok_net N C lo hi) (K : KF N) {a b : Nat} (ha : a < N) (hb1 : 1 ≤ b) (hb2 : b ≤ N) : sumf (rkc N (zrun lo hi nsk C) a b) (N * 2 ^ N) = cnl (fun p => wrun lo hi nsk C (pv p) a == nI b) (VV N) := by
  have hN7 := hN.2.1
  rw [cnl_lsum]
  generalize hz : zrun lo hi nsk C = z
  have key : ∀ p ∈ VV N, (wrun lo hi nsk C (pv p) a == nI b).toNat = lsum (fun k => if szo (k / N) N = N - b ∧ z (k / N) / 2 ^ a % 2 ≠ z (k / N ||| 2 ^ (k % N)) / 2 ^ a % 2 then 1 else 0) (prs N (chainF (tmL p) 0 N)) := by
    intro p hp
    obtain ⟨m, hm1, hm2, hm⟩ := ov_in hN K nsk (Nat.le_refl C) hp ha
    obtain ⟨c1, c2⟩ := chk_spec N 0 (K.2.2.2.1 p hp).1
    have c1 : ∀ d, d ≤ N → szo (tmL p d) N = N - d := fun d hd => by have := (c1 d hd).2; rw [Nat.zero_add] at this; exact this
    have c2 : ∀ d, d < N → chs N (tmL p) d := fun d hd => by have := c2 d hd; rw [Nat.zero_add] at this; exact this
    have hzb : ∀ j, j ≤ N → z (tmL p j) / 2 ^ a % 2 = if j < m then 1 else 0 := fun j hj => by rw [← hz]; exact z_bit hN K nsk (Nat.le_refl C) hp hj ha hm hm2
    rw [prs_sum, sumg_1 (j0 := b - 1) N 0 (by omega) (by omega)]
    · obtain ⟨s1, s2, s3⟩ := c2 (b - 1) (by omega)
      obtain ⟨d1, d2⟩ := cd_dm s1
      rw [d1, d2, ← s2, hzb _ (by omega), hzb _ (by omega), c1 _ (by omega), hm, show b - 1 + 1 = b by omega]
      by_cases e : m = b
      · subst e
        rw [if_pos ⟨rfl, by rw [if_neg (by omega), if_pos (by omega)]; decide⟩, beq_self_eq_true]; rfl
      · rw [if_neg, show (nI m == nI b) = false from beq_false_of_ne (fun h => e ((nI_eq (by omega) (by omega)).mp h))]
        · rfl
        · rintro ⟨-, h⟩
          apply h
          by_cases q : b < m
          · rw [if_pos q, if_pos (by omega)]
          · rw [if_neg q, if_neg (by omega)]
    · intro j h1 h2 h3
      obtain ⟨s1, s2, s3⟩ := c2 j (by omega)
      obtain ⟨d1, d2⟩ := cd_dm s1
      rw [d1, c1 _ (by omega), if_neg]
      rintro ⟨h, -⟩
      omega
  rw [lsum_congr key, pair_sum K]
  refine sumf_congr _ (fun k hk => ?_)
  unfold rkc mult
  by_cases q : k / N / 2 ^ (k % N) % 2 = 0
  · rw [if_pos q]
    by_cases r : szo (k / N) N = N - b ∧ z (k / N) / 2 ^ a % 2 ≠ z (k / N ||| 2 ^ (k % N)) / 2 ^ a % 2
    · rw [if_pos r, if_pos ⟨⟨q, r.1⟩, r.2⟩, Nat.mul_one]
    · rw [if_neg r, if_neg (fun h => r ⟨h.1.2, h.2⟩), Nat.mul_zero]
  · rw [if_neg q, if_neg (fun h => q h.1.1), Nat.zero_mul]
theorem less_eq (hN : ok_net N C lo hi) (K : KF N) {k a b : Nat} (hk : k ≤ C) (ha : a < N) (hb : b < N) : sumf (lsc N (zrun lo hi nsk k) a b) (N * 2 ^ N) = cnl (fun p => decide (wrun lo hi nsk k (pv p) a < wrun lo hi nsk k (pv p) b)) (VV N) := by
  have hN7 := hN.2.1
  rw [cnl_lsum]
  generalize hz : zrun lo hi nsk k = z
  have key : ∀ p ∈ VV N, (decide (wrun lo hi nsk k (pv p) a < wrun lo hi nsk k (pv p) b)).toNat = lsum (fun k => if z (k / N) / 2 ^ b % 2 = 0 ∧ z (k / N ||| 2 ^ (k % N)) / 2 ^ b % 2 = 1 ∧ z (k / N ||| 2 ^ (k % N)) / 2 ^ a % 2 = 0 then 1 else 0) (prs N (chainF (tmL p) 0 N)) := by
    intro p hp
    obtain ⟨ma, ma1, ma2, hma⟩ := ov_in hN K nsk hk hp ha
    obtain ⟨mb, mb1, mb2, hmb⟩ := ov_in hN K nsk hk hp hb
    obtain ⟨-, c2⟩ := chk_spec N 0 (K.2.2.2.1 p hp).1
    have c2 : ∀ d, d < N → chs N (tmL p) d := fun d hd => by have := c2 d hd; rw [Nat.zero_add] at this; exact this
    have hza : ∀ j, j ≤ N → z (tmL p j) / 2 ^ a % 2 = if j < ma then 1 else 0 := fun j hj => by rw [← hz]; exact z_bit hN K nsk hk hp hj ha hma ma2
    have hzb : ∀ j, j ≤ N → z (tmL p j) / 2 ^ b % 2 = if j < mb then 1 else 0 := fun j hj => by rw [← hz]; exact z_bit hN K nsk hk hp hj hb hmb mb2
    rw [prs_sum, sumg_1 (j0 := mb - 1) N 0 (by omega) (by omega)]
    · obtain ⟨s1, s2, s3⟩ := c2 (mb - 1) (by omega)
      obtain ⟨d1, d2⟩ := cd_dm s1
      rw [d1, d2, ← s2, hzb _ (by omega), hzb _ (by omega), hza _ (by omega), hma, hmb, show mb - 1 + 1 = mb by omega]
      rw [if_neg (Nat.lt_irrefl mb), if_pos (show mb - 1 < mb by omega)]
      by_cases e : ma < mb
      · rw [decide_eq_true ((nI_ltI (by omega) (by omega)).mpr e), if_neg (show ¬ mb - 1 < ma by omega)]; rfl
      · rw [decide_eq_false (fun h => e ((nI_ltI (by omega) (by omega)).mp h)), if_pos (show mb - 1 < ma by omega)]; rfl
    · intro j h1 h2 h3
      obtain ⟨s1, s2, s3⟩ := c2 j (by omega)
      obtain ⟨d1, d2⟩ := cd_dm s1
      rw [d1, d2, ← s2, hzb _ (by omega), hzb _ (by omega), if_neg]
      rintro ⟨h4, h5, -⟩
      by_cases q : j + 1 < mb
      · rw [if_pos q] at h4; cases h4
      · by_cases q2 : j < mb
        · omega
        · rw [if_neg q2] at h5; cases h5
  rw [lsum_congr key, pair_sum K]
  refine sumf_congr _ (fun i hi2 => ?_)
  unfold lsc mult
  by_cases q : i / N / 2 ^ (i % N) % 2 = 0
  · rw [if_pos q]
    by_cases r : z (i / N) / 2 ^ b % 2 = 0 ∧ z (i / N ||| 2 ^ (i % N)) / 2 ^ b % 2 = 1 ∧ z (i / N ||| 2 ^ (i % N)) / 2 ^ a % 2 = 0
    · rw [if_pos r, if_pos ⟨q, r⟩, Nat.mul_one]
    · rw [if_neg r, if_neg (fun h => r h.2), Nat.mul_zero]
  · rw [if_neg q, if_neg (fun h => q h.1), Nat.zero_mul]
/-- small facts of sets, by the kernel -/
theorem sz_0 : ∀ N, N < 8 → ∀ s, s < 2 ^ N → szo s N = 0 → s = 0 := by decide +kernel
theorem sz_x : ∀ N, N < 8 → ∀ s, s < 2 ^ N → ∀ w, w < N → s / 2 ^ w % 2 = 1 → s ^^^ 2 ^ w < 2 ^ N ∧ szo (s ^^^ 2 ^ w) N + 1 = szo s N := by decide +kernel
theorem sz_N : ∀ N, N < 8 → szo (2 ^ N - 1) N = N := by decide +kernel
theorem sz_f : ∀ N, N < 8 → ∀ s, s < 2 ^ N → szo s N = N → s = 2 ^ N - 1 := by decide +kernel
theorem sz_h : ∀ N, N < 8 → ∀ s, s < 2 ^ N → s = 2 ^ N - 1 ∨ (List.range N).any (fun x => s / 2 ^ x % 2 == 0) = true := by decide +kernel
theorem sz_g : ∀ N, N < 8 → ∀ j, j < N + 1 → 2 ^ N - 2 ^ j = thm (nI j) (fun x => nI (x + 1)) N := by decide +kernel
theorem fac_pos : ∀ n, 0 < fac n := by
  intro n
  induction n with
  | zero => decide
  | succ n ih => exact Nat.mul_pos ih (by omega)
theorem csum_bits (s : Nat) (c : Nat → Nat) : ∀ n, csum s c n = lsum (fun w => c (s ^^^ 2 ^ w)) ((List.range n).filter (fun w => s / 2 ^ w % 2 == 1)) := by
  intro n
  induction n with
  | zero => rfl
  | succ n ih =>
    rw [List.range_succ, List.filter_append, lsum_app, ← ih]
    show csum s c n + _ = csum s c n + _
    congr 1
    by_cases q : s / 2 ^ n % 2 = 1
    · rw [if_pos q, List.filter_cons_of_pos (by rw [q]; rfl)]
      rfl
    · rw [if_neg q, List.filter_cons_of_neg (by simpa using q)]
      rfl
theorem chn_count {gd : Nat → Bool} {c : Nat → Nat} (hN7 : N ≤ 7) (h : chn N gd (2 ^ N) c) (h0 : gd 0 = true) : ∀ m s, s < 2 ^ N → szo s N = m → c s = lsum (fun l => (l.all gd).toNat) (chl N m s) := by
  intro m
  induction m with
  | zero =>
    intro s hs hz
    have e := sz_0 N (by omega) s hs hz
    subst e
    rw [h.1]
    show 1 = ((gd 0 && true).toNat + 0)
    rw [h0]; rfl
  | succ m ih =>
    intro s hs hz
    have hp : 0 < s := by
      rcases Nat.eq_zero_or_pos s with e | e
      · subst e
        exfalso
        have : ∀ N, N < 8 → szo 0 N = 0 := by decide +kernel
        rw [this N (by omega)] at hz
        cases hz
      · exact e
    rw [h.2 s hp hs]
    show _ = lsum _ ((bits N s).flatMap _)
    rw [lsum_flat, csum_bits]
    have hb : ∀ w ∈ bits N s, w < N ∧ s / 2 ^ w % 2 = 1 := by
      intro w hw
      obtain ⟨h1, h2⟩ := List.mem_filter.mp hw
      exact ⟨List.mem_range.mp h1, by simpa using h2⟩
    by_cases q : gd s = true
    · rw [if_pos q]
      refine lsum_congr (fun w hw => ?_)
      obtain ⟨w1, w2⟩ := hb w hw
      obtain ⟨x1, x2⟩ := sz_x N (by omega) s hs w w1 w2
      rw [ih _ x1 (by omega), lsum_map]
      refine lsum_congr (fun l _ => ?_)
      rw [List.all_cons, q]; rfl
    · rw [if_neg q]
      have e : ∀ w ∈ bits N s, lsum (fun l => (l.all gd).toNat) ((chl N m (s ^^^ 2 ^ w)).map (fun l => s :: l)) = 0 := by
        intro w _
        rw [lsum_map]
        have e2 : ∀ l : List Nat, ((s :: l).all gd).toNat = 0 := fun l => by
          rw [List.all_cons, show gd s = false from by revert q; cases gd s <;> simp]; rfl
        generalize chl N m (s ^^^ 2 ^ w) = ll
        induction ll with
        | nil => rfl
        | cons l t iht => show ((s :: l).all gd).toNat + _ = 0; rw [e2, iht]
      rw [lsum_congr e]
      generalize bits N s = ll
      induction ll with
      | nil => rfl
      | cons l t iht => show 0 = 0 + _; rw [← iht]
theorem zrun_0 (sk : Nat → Bool) : ∀ k, zrun lo hi sk k 0 = 0 := by
  intro k
  induction k with
  | zero => rfl
  | succ k ih =>
    rw [zrun_s, ih]
    have : bsw (lo k) (hi k) 0 = 0 := by
      unfold bsw
      rw [Nat.zero_div, Nat.zero_div]; rfl
    rw [this]
    split <;> rfl
theorem thm_ext {t : Int32} {v v' : Nat → Int32} (h : ∀ x, x < N → v x = v' x) : thm t v N = thm t v' N := by
  apply Nat.eq_of_testBit_eq
  intro x
  rw [thm_bit, thm_bit]
  exact decide_eq_decide.mpr ⟨fun q => ⟨q.1, by rw [← h x q.1]; exact q.2⟩, fun q => ⟨q.1, by rw [h x q.1]; exact q.2⟩⟩
theorem thm_inj {v : Nat → Int32} {w : Nat → Nat} (hN7 : N ≤ 7) (hw : ∀ x, x < N → 1 ≤ w x ∧ w x ≤ N) (hv : ∀ x, x < N → ∃ m, 1 ≤ m ∧ m ≤ N ∧ v x = nI m) (h : ∀ j, j ≤ N → thm (nI j) v N = thm (nI j) (fun x => nI (w x)) N) : ∀ x, x < N → v x = nI (w x) := by
  intro x hx
  obtain ⟨m, m1, m2, e⟩ := hv x hx
  obtain ⟨w1, w2⟩ := hw x hx
  rw [e]
  have hb : ∀ j, j ≤ N → (j < m ↔ j < w x) := by
    intro j hj
    have h1 := congrArg (fun s => s.testBit x) (h j hj)
    rw [thm_bit, thm_bit, e] at h1
    have h2 := decide_eq_decide.mp h1
    have a1 := nI_ltI (a := j) (b := m) (by omega) (by omega)
    have a2 := nI_ltI (a := j) (b := w x) (by omega) (by omega)
    exact ⟨fun q => a2.mp (h2.mp ⟨hx, a1.mpr q⟩).2, fun q => a1.mp (h2.mpr ⟨hx, a2.mpr q⟩).2⟩
  have b1 := hb m m2
  have b2 := hb (w x) w2
  have : m = w x := by omega
  rw [this]
theorem allq_spec {f : Nat → Bool} : ∀ n, allq f n = true ↔ ∀ x, x < n → f x = true := by
  intro n
  constructor
  · intro h x hx
    cases e : f x with
    | true => rfl
    | false => rw [allq_f e n hx] at h; cases h
  · exact allq_t n
theorem srt_chain (hN : ok_net N C lo hi) (K : KF N) {p : List Nat} (hp : p ∈ VV N) : srt N (wrun lo hi nsk C (pv p)) = (chainF (tmL p) 0 N).all (inpl N (zrun lo hi nsk C)) := by
  have hN7 := hN.2.1
  obtain ⟨c1, -⟩ := chk_spec N 0 (K.2.2.2.1 p hp).1
  have c1 : ∀ d, d ≤ N → szo (tmL p d) N = N - d := fun d hd => by have := (c1 d hd).2; rw [Nat.zero_add] at this; exact this
  have gd : ∀ j, j ≤ N → (inpl N (zrun lo hi nsk C) (tmL p j) = true ↔ thm (nI j) (wrun lo hi nsk C (pv p)) N = thm (nI j) (fun x => nI (x + 1)) N) := by
    intro j hj
    unfold inpl
    rw [beq_iff_eq, c1 j hj, z_thm hN K nsk (Nat.le_refl C) hp hj, show N - (N - j) = j by omega, sz_g N (by omega) j (by omega)]
  rw [Bool.eq_iff_iff, chain_all]
  unfold srt
  rw [allq_spec]
  constructor
  · intro h d hd
    rw [Nat.zero_add, gd d hd]
    exact thm_ext (fun x hx => eq_of_beq (h x hx))
  · intro h x hx
    refine beq_iff_eq.mpr ?_
    refine thm_inj (w := fun x => x + 1) hN7 (fun x hx => ⟨by omega, by omega⟩) (fun x hx => ov_in hN K nsk (Nat.le_refl C) hp hx) (fun j hj => ?_) x hx
    have := h j hj
    rw [Nat.zero_add] at this
    exact (gd j hj).mp this
theorem sorted_eq (hN : ok_net N C lo hi) (K : KF N) {c : Nat → Nat} (h : chn N (inpl N (zrun lo hi nsk C)) (2 ^ N) c) : c (2 ^ N - 1) = cnl (fun p => srt N (wrun lo hi nsk C (pv p))) (VV N) := by
  have hN7 := hN.2.1
  have hp := pw_pos N
  have h0 : inpl N (zrun lo hi nsk C) 0 = true := by
    unfold inpl
    rw [zrun_0, beq_iff_eq]
    have : ∀ N, N < 8 → 0 = 2 ^ N - 2 ^ (N - szo 0 N) := by decide +kernel
    exact this N (by omega)
  rw [cnl_lsum, chn_count hN7 h h0 N _ (by omega) (sz_N N (by omega)), ← lsum_perm _ K.2.1, lsum_map]
  exact lsum_congr (fun p hp => by rw [srt_chain hN K hp])
/-- every set is in some order's chain -/
theorem set_in (hN : ok_net N C lo hi) (K : KF N) {s : Nat} (hs : s < 2 ^ N) : ∃ p ∈ VV N, ∃ j, j ≤ N ∧ tmL p j = s := by
  have hN7 := hN.2.1
  have hN2 := hN.1
  rcases sz_h N (by omega) s hs with e | e
  · have hl : 0 < (VV N).length := by rw [K.2.2.2.2]; exact fac_pos N
    obtain ⟨p, hp⟩ := List.exists_mem_of_length_pos hl
    obtain ⟨c1, -⟩ := chk_spec N 0 (K.2.2.2.1 p hp).1
    have := c1 0 (Nat.zero_le N)
    rw [Nat.zero_add, Nat.sub_zero] at this
    exact ⟨p, hp, 0, Nat.zero_le N, by rw [e]; exact sz_f N (by omega) _ this.1 this.2⟩
  · obtain ⟨x, hx1, hx2⟩ := List.any_eq_true.mp e
    have hx : x < N := List.mem_range.mp hx1
    have hx0 : s / 2 ^ x % 2 = 0 := by simpa using hx2
    have d1 : (s * N + x) / N = s := by rw [Nat.mul_comm, Nat.mul_add_div (by omega), Nat.div_eq_of_lt hx]; omega
    have d2 : (s * N + x) % N = x := by rw [Nat.mul_comm, Nat.mul_add_mod, Nat.mod_eq_of_lt hx]
    have hk : s * N + x < N * 2 ^ N := by
      have : (s + 1) * N ≤ 2 ^ N * N := Nat.mul_le_mul_right N hs
      rw [Nat.succ_mul] at this
      rw [Nat.mul_comm N]
      omega
    have hm : mult N (s * N + x) ≠ 0 := by
      unfold mult
      rw [d1, d2, if_pos hx0]
      unfold ord
      have := Nat.mul_pos (fac_pos (szo s N)) (fac_pos (N - 1 - szo s N))
      omega
    have hsum := pair_sum K (fun k => if k = s * N + x then 1 else 0)
    have hge := sumf_ge (f := fun k => mult N k * (if k = s * N + x then 1 else 0)) (N * 2 ^ N) hk
    have hge : mult N (s * N + x) * (if s * N + x = s * N + x then 1 else 0) ≤ _ := hge
    rw [if_pos rfl, ← hsum] at hge
    rw [Nat.mul_one] at hge
    have hgt : 0 < lsum (fun p => lsum (fun k => if k = s * N + x then 1 else 0) (prs N (chainF (tmL p) 0 N))) (VV N) := Nat.lt_of_lt_of_le (Nat.pos_of_ne_zero hm) hge
    obtain ⟨p, hp, hq⟩ := lsum_pos hgt
    obtain ⟨k2, hk2, hq2⟩ := lsum_pos hq
    have hq2 : 0 < (if k2 = s * N + x then 1 else 0) := hq2
    have hk3 : k2 = s * N + x := by
      by_cases e : k2 = s * N + x
      · exact e
      · rw [if_neg e] at hq2; exact absurd hq2 (Nat.lt_irrefl 0)
    subst hk3
    obtain ⟨j, -, hj, e2⟩ := prs_mem N 0 hk2
    rw [Nat.zero_add] at hj
    obtain ⟨-, c2⟩ := chk_spec N 0 (K.2.2.2.1 p hp).1
    have c3 := c2 j hj
    rw [Nat.zero_add] at c3
    have e3 := (cd_dm c3.1).1
    rw [← e2, d1] at e3
    exact ⟨p, hp, j + 1, hj, e3.symm⟩
theorem cnl_full (q : List Nat → Bool) : ∀ l, cnl q l = l.length ↔ ∀ p ∈ l, q p = true := by
  intro l
  induction l with
  | nil => simp [cnl]
  | cons a l ih =>
    have h1 := cnl_le q l
    have h2 : (q a).toNat ≤ 1 := Bool.toNat_le (q a)
    show (q a).toNat + cnl q l = l.length + 1 ↔ _
    rw [List.forall_mem_cons, ← ih]
    constructor
    · intro h
      refine ⟨?_, by omega⟩
      cases e : q a with
      | true => rfl
      | false => rw [e] at h; have : (false.toNat) = 0 := rfl; omega
    · rintro ⟨h3, h4⟩
      rw [h3, h4]
      show 1 + _ = _
      omega
theorem sorts_eq (hN : ok_net N C lo hi) (K : KF N) : (allq (inpl N (zrun lo hi nsk C)) (2 ^ N)).toNat = if cnl (fun p => srt N (wrun lo hi nsk C (pv p))) (VV N) = fac N then 1 else 0 := by
  have key : allq (inpl N (zrun lo hi nsk C)) (2 ^ N) = true ↔ cnl (fun p => srt N (wrun lo hi nsk C (pv p))) (VV N) = fac N := by
    rw [← K.2.2.2.2, cnl_full, allq_spec]
    constructor
    · intro h p hp
      show srt N (wrun lo hi nsk C (pv p)) = true
      rw [srt_chain hN K hp, chain_all]
      intro d hd
      obtain ⟨c1, -⟩ := chk_spec N 0 (K.2.2.2.1 p hp).1
      exact h _ (c1 d hd).1
    · intro h s hs
      obtain ⟨p, hp, j, hj, e⟩ := set_in hN K hs
      have h1 : srt N (wrun lo hi nsk C (pv p)) = true := h p hp
      rw [srt_chain hN K hp, chain_all] at h1
      have := h1 j hj
      rw [Nat.zero_add, e] at this
      exact this
  by_cases q : cnl (fun p => srt N (wrun lo hi nsk C (pv p))) (VV N) = fac N
  · rw [if_pos q, key.mpr q]; rfl
  · rw [if_neg q]
    cases e : allq (inpl N (zrun lo hi nsk C)) (2 ^ N) with
    | false => rfl
    | true => exact absurd (key.mp e) q
theorem alv_spec (q : List Nat → Bool) : ∀ l, alv q l = true ↔ ∀ p ∈ l, q p = true := by
  intro l
  induction l with
  | nil => simp [alv]
  | cons a l ih =>
    show (q a && alv q l) = true ↔ _
    rw [Bool.and_eq_true, ih, List.forall_mem_cons]
theorem idle_eq (hN : ok_net N C lo hi) (K : KF N) (k : Nat) : allq (fun s => zrun lo hi (skp k) C s == zrun lo hi nsk C s) (2 ^ N) = alv (smb N C lo hi k) (VV N) := by
  have hN7 := hN.2.1
  rw [Bool.eq_iff_iff, allq_spec, alv_spec]
  constructor
  · intro h p hp
    unfold smb
    rw [allq_spec]
    intro x hx
    refine beq_iff_eq.mpr ?_
    have ho : ∀ x, x < N → ∃ m, 1 ≤ m ∧ m ≤ N ∧ wrun lo hi (skp k) C (pv p) x = nI m := fun x hx => ov_in hN K (skp k) (Nat.le_refl C) hp hx
    have hw : ∀ x, x < N → wrun lo hi (skp k) C (pv p) x = nI (wrun lo hi (skp k) C (pv p) x).toNatClampNeg := by
      intro x hx
      obtain ⟨m, m1, m2, e⟩ := ho x hx
      rw [e, nI_clamp (by omega)]
    have := thm_inj (v := wrun lo hi nsk C (pv p)) (w := fun x => (wrun lo hi (skp k) C (pv p) x).toNatClampNeg) hN7 (fun x hx => by
      obtain ⟨m, m1, m2, e⟩ := ho x hx
      show 1 ≤ (wrun lo hi (skp k) C (pv p) x).toNatClampNeg ∧ (wrun lo hi (skp k) C (pv p) x).toNatClampNeg ≤ N
      rw [e, nI_clamp (by omega)]
      exact ⟨m1, m2⟩) (fun x hx => ov_in hN K nsk (Nat.le_refl C) hp hx) (fun j hj => by
      rw [← thm_ext hw, ← z_thm hN K nsk (Nat.le_refl C) hp hj, ← z_thm hN K (skp k) (Nat.le_refl C) hp hj]
      obtain ⟨c1, -⟩ := chk_spec N 0 (K.2.2.2.1 p hp).1
      have := (c1 j hj).1
      rw [Nat.zero_add] at this
      exact (eq_of_beq (h _ this)).symm) x hx
    rw [this]
    exact (hw x hx).symm
  · intro h s hs
    refine beq_iff_eq.mpr ?_
    obtain ⟨p, hp, j, hj, e⟩ := set_in hN K hs
    have h1 := h p hp
    unfold smb at h1
    rw [allq_spec] at h1
    rw [← e, z_thm hN K nsk (Nat.le_refl C) hp hj, z_thm hN K (skp k) (Nat.le_refl C) hp hj]
    exact thm_ext (fun x hx => (eq_of_beq (h1 x hx)).symm)
theorem cntq_congr {f g : Nat → Bool} : ∀ n, (∀ k, k < n → f k = g k) → cntq f n = cntq g n := by
  intro n
  induction n with
  | zero => intro _; rfl
  | succ n ih => intro h; show _ + _ = _ + _; rw [ih (fun k hk => h k (by omega)), h n (by omega)]
end ORD
end
section
/-! all orders as numbers: what the kernel counts, cheaply; and why that is enough -/
set_option maxRecDepth 100000
theorem mrgA_perm {α : Type} (le : α → α → Bool) (a : α) (r : List α) (rc : List α → List α) (h : ∀ l, (rc l).Perm (r ++ l)) : ∀ l, (mrgA le a rc l).Perm (a :: (r ++ l)) := by
  intro l
  induction l with
  | nil => exact (h []).cons a
  | cons b l ih =>
    show (if le a b = true then a :: rc (b :: l) else b :: mrgA le a rc l).Perm _
    split
    · exact (h (b :: l)).cons a
    · refine (ih.cons b).trans ?_
      have := (List.perm_middle (a := b) (l₁ := a :: r) (l₂ := l)).symm
      exact this
theorem mrg_perm {α : Type} (le : α → α → Bool) : ∀ l1 l2 : List α, (mrg le l1 l2).Perm (l1 ++ l2) := by
  intro l1
  induction l1 with
  | nil => intro l2; exact List.Perm.refl l2
  | cons a r ih => intro l2; exact mrgA_perm le a r (mrg le r) ih l2
theorem spl_perm {α : Type} : ∀ l : List α, ((spl l).1 ++ (spl l).2).Perm l := by
  intro l
  induction l with
  | nil => exact List.Perm.refl []
  | cons a r ih =>
    show (a :: ((spl r).2 ++ (spl r).1)).Perm (a :: r)
    exact (List.perm_append_comm.trans ih).cons a
theorem mso_perm {α : Type} (le : α → α → Bool) : ∀ (f : Nat) (l : List α), (mso le f l).Perm l := by
  intro f
  induction f with
  | zero => intro l; exact List.Perm.refl l
  | succ f ih =>
    intro l
    exact (mrg_perm le _ _).trans (((ih _).append (ih _)).trans (spl_perm l))
def gen : Nat → List Nat → Nat → Nat → List Nat
  | 0, _, acc, _ => [acc]
  | m + 1, av, acc, sc => av.flatMap (fun a => gen m (av.erase a) (acc + a * sc) (sc * 8))
def dec : Nat → Nat → List Nat
  | 0, _ => []
  | n + 1, e => e % 8 :: dec n (e / 8)
def gck (N : Nat) : List Nat → Bool
  | [] => false
  | e :: r => match r with
    | [] => !(nxt N (dec N e)).1
    | e' :: _ => (nxt N (dec N e)).1 && ((nxt N (dec N e)).2 == dec N e') && gck N r
theorem gck_spec {N : Nat} : ∀ (r : List Nat) (e : Nat), gck N (e :: r) = true → ∀ f, r.length < f → vis N f (dec N e) = (e :: r).map (dec N) ∧ vend N f (dec N e) = true := by
  intro r
  induction r with
  | nil =>
    intro e h f hf
    have h : (!(nxt N (dec N e)).1) = true := h
    have h1 : (nxt N (dec N e)).1 = false := by revert h; cases (nxt N (dec N e)).1 <;> simp
    cases f with
    | zero => exact absurd hf (Nat.not_lt_zero _)
    | succ f =>
      refine ⟨by rw [vis_f h1]; rfl, ?_⟩
      show (if (nxt N (dec N e)).1 = true then _ else true) = true
      rw [if_neg (by rw [h1]; decide)]
  | cons e' r ih =>
    intro e h f hf
    have h : ((nxt N (dec N e)).1 && ((nxt N (dec N e)).2 == dec N e') && gck N (e' :: r)) = true := h
    rw [Bool.and_eq_true, Bool.and_eq_true, beq_iff_eq] at h
    obtain ⟨⟨h1, h2⟩, h3⟩ := h
    cases f with
    | zero => exact absurd hf (Nat.not_lt_zero _)
    | succ f =>
      obtain ⟨i1, i2⟩ := ih e' h3 f (by rw [List.length_cons] at hf; omega)
      refine ⟨?_, ?_⟩
      · rw [vis_t h1, h2, i1]; rfl
      · show (if (nxt N (dec N e)).1 = true then vend N f (nxt N (dec N e)).2 else true) = true
        rw [if_pos h1, h2]; exact i2
def keyL (N : Nat) : List Nat → Nat → Nat
  | [], _ => 0
  | a :: r, x => x * 8 ^ (N - a) + keyL N r (x + 1)
def kl (N : Nat) : Nat → Nat → Nat → List Nat
  | 0, _, acc => [acc]
  | m + 1, s, acc => (bits N s).flatMap (fun w => kl N m (s ^^^ 2 ^ w) (acc * 8 + w))
def dg (k i : Nat) : Nat := k / 8 ^ i % 8
/-- the wires with the i greatest numbers -/
def dD (k : Nat) : Nat → Nat
  | 0 => 0
  | i + 1 => dD k i ||| 2 ^ dg k i
def dcn (k m : Nat) : List Nat := chainF (fun j => dD k (m - j)) 0 m
def ick (N : Nat) (p : List Nat) : Bool := okv N p && (List.range N).all (fun x => (dg (keyL N p 0) (N - p.getD x 0) == x) && (Nat.blt (dg (keyL N p 0) x) N && (p.getD (dg (keyL N p 0) x) 0 + x == N)))
theorem dD_bit (k x : Nat) : ∀ i, (dD k i).testBit x = true ↔ ∃ j, j < i ∧ dg k j = x := by
  intro i
  induction i with
  | zero =>
    show (0 : Nat).testBit x = true ↔ _
    rw [Nat.zero_testBit]
    constructor
    · intro h; cases h
    · rintro ⟨j, h, -⟩; omega
  | succ i ih =>
    show (dD k i ||| 2 ^ dg k i).testBit x = true ↔ _
    rw [Nat.testBit_or, Bool.or_eq_true, ih, Nat.testBit_two_pow, decide_eq_true_eq]
    constructor
    · rintro (⟨j, h1, h2⟩ | h)
      · exact ⟨j, by omega, h2⟩
      · exact ⟨i, by omega, h⟩
    · rintro ⟨j, h1, h2⟩
      by_cases e : j = i
      · subst e; exact Or.inr h2
      · exact Or.inl ⟨j, by omega, h2⟩
theorem tmL_bit {N : Nat} (hN : N ≤ 7) {p : List Nat} (h : okv N p = true) {j : Nat} (hj : j ≤ N) (x : Nat) : (tmL p j).testBit x = true ↔ x < N ∧ j < p.getD x 0 := by
  obtain ⟨h1, h2⟩ := okv_spec hN h
  have e := thm_tmL j (by omega) p h1.2
  rw [h1.1] at e
  rw [← e, thm_bit, decide_eq_true_eq]
  constructor
  · rintro ⟨a, b⟩
    exact ⟨a, (nI_ltI (by omega) (h1.2 x)).mp b⟩
  · rintro ⟨a, b⟩
    exact ⟨a, (nI_ltI (by omega) (h1.2 x)).mpr b⟩
theorem chainF_congr {T U : Nat → Nat} : ∀ n i, (∀ d, d ≤ n → T (i + d) = U (i + d)) → chainF T i n = chainF U i n := by
  intro n
  induction n with
  | zero => intro i h; have := h 0 (Nat.le_refl 0); rw [Nat.add_zero] at this; show [T i] = [U i]; rw [this]
  | succ n ih =>
    intro i h
    show T i :: _ = U i :: _
    have h0 := h 0 (by omega)
    rw [Nat.add_zero] at h0
    rw [h0, ih (i + 1) (fun d hd => by rw [show i + 1 + d = i + (d + 1) by omega]; exact h (d + 1) (by omega))]
theorem ick_chain {N : Nat} (hN : N ≤ 7) {p : List Nat} (h : ick N p = true) : chainF (tmL p) 0 N = dcn (keyL N p 0) N := by
  unfold ick at h
  rw [Bool.and_eq_true, List.all_eq_true] at h
  obtain ⟨h1, h2⟩ := h
  obtain ⟨o1, o2⟩ := okv_spec hN h1
  generalize keyL N p 0 = k at h2
  have h3 : ∀ x, x < N → dg k (N - p.getD x 0) = x ∧ dg k x < N ∧ p.getD (dg k x) 0 + x = N := by
    intro x hx
    have := h2 x (List.mem_range.mpr hx)
    rw [Bool.and_eq_true, Bool.and_eq_true, beq_iff_eq, beq_iff_eq] at this
    exact ⟨this.1, by simpa [Nat.blt_eq] using this.2.1, this.2.2⟩
  unfold dcn
  refine chainF_congr N 0 (fun d hd => ?_)
  rw [Nat.zero_add]
  apply Nat.eq_of_testBit_eq
  intro x
  rw [Bool.eq_iff_iff, tmL_bit hN h1 hd, dD_bit]
  constructor
  · rintro ⟨a, b⟩
    have := o2 x a
    exact ⟨N - p.getD x 0, by omega, (h3 x a).1⟩
  · rintro ⟨i, a, b⟩
    obtain ⟨-, q2, q3⟩ := h3 i (by omega)
    rw [b] at q2 q3
    exact ⟨q2, by omega⟩
theorem sz_o : ∀ N, N < 8 → ∀ s, s < 2 ^ N → ∀ w, w < N → s / 2 ^ w % 2 = 1 → (s ^^^ 2 ^ w) ||| 2 ^ w = s ∧ Nat.log2 (s ^^^ (s ^^^ 2 ^ w)) = w ∧ (s ^^^ 2 ^ w) / 2 ^ w % 2 = 0 := by decide +kernel
theorem bits_in {N s w : Nat} (h : w ∈ bits N s) : w < N ∧ s / 2 ^ w % 2 = 1 := by
  obtain ⟨h1, h2⟩ := List.mem_filter.mp h
  exact ⟨List.mem_range.mp h1, by simpa using h2⟩
theorem kl_spec {N : Nat} (hN : N ≤ 7) : ∀ m s acc, s < 2 ^ N → szo s N = m → chl N m s = (kl N m s acc).map (fun k => dcn k m) ∧ ∀ k ∈ kl N m s acc, k / 8 ^ m = acc ∧ dD k m = s := by
  intro m
  induction m with
  | zero =>
    intro s acc hs hz
    have e := sz_0 N (by omega) s hs hz
    subst e
    refine ⟨rfl, fun k hk => ?_⟩
    have e : k = acc := List.mem_singleton.mp hk
    subst e
    exact ⟨by rw [Nat.pow_zero, Nat.div_one], rfl⟩
  | succ m ih =>
    intro s acc hs hz
    have hw : ∀ w ∈ bits N s, ∀ k ∈ kl N m (s ^^^ 2 ^ w) (acc * 8 + w), k / 8 ^ (m + 1) = acc ∧ dD k (m + 1) = s := by
      intro w hw k hk
      obtain ⟨w1, w2⟩ := bits_in hw
      obtain ⟨x1, x2⟩ := sz_x N (by omega) s hs w w1 w2
      obtain ⟨i1, i2⟩ := (ih (s ^^^ 2 ^ w) (acc * 8 + w) x1 (by omega)).2 k hk
      refine ⟨?_, ?_⟩
      · rw [Nat.pow_succ, ← Nat.div_div_eq_div_mul, i1]; omega
      · show dD k m ||| 2 ^ dg k m = s
        unfold dg
        rw [i1, i2, show (acc * 8 + w) % 8 = w by omega]
        exact (sz_o N (by omega) s hs w w1 w2).1
    refine ⟨?_, fun k hk => ?_⟩
    · show (bits N s).flatMap _ = ((bits N s).flatMap _).map _
      rw [List.map_flatMap]
      have e : ∀ w ∈ bits N s, (chl N m (s ^^^ 2 ^ w)).map (fun l => s :: l) = (kl N m (s ^^^ 2 ^ w) (acc * 8 + w)).map (fun k => dcn k (m + 1)) := by
        intro w hw'
        obtain ⟨w1, w2⟩ := bits_in hw'
        obtain ⟨x1, x2⟩ := sz_x N (by omega) s hs w w1 w2
        rw [(ih (s ^^^ 2 ^ w) (acc * 8 + w) x1 (by omega)).1, List.map_map]
        refine List.map_congr_left (fun k hk => ?_)
        have h5 := (hw w hw' k hk).2
        show s :: dcn k m = dD k (m + 1 - 0) :: chainF (fun j => dD k (m + 1 - j)) (0 + 1) m
        rw [Nat.sub_zero, h5]
        congr 1
        have sh : ∀ n i, chainF (fun j => dD k (m - j)) i n = chainF (fun j => dD k (m + 1 - j)) (i + 1) n := by
          intro n
          induction n with
          | zero => intro i; show [dD k (m - i)] = [dD k (m + 1 - (i + 1))]; rw [show m + 1 - (i + 1) = m - i by omega]
          | succ n ihn => intro i; show dD k (m - i) :: _ = dD k (m + 1 - (i + 1)) :: _; rw [show m + 1 - (i + 1) = m - i by omega, ihn (i + 1)]
        exact sh m 0
      clear hw ih
      revert e
      generalize bits N s = bl
      intro e
      induction bl with
      | nil => rfl
      | cons b t iht =>
        rw [List.flatMap_cons, List.flatMap_cons, e b List.mem_cons_self, iht (fun w hw => e w (List.mem_cons_of_mem _ hw))]
    · obtain ⟨w, hw', hk'⟩ := List.mem_flatMap.mp hk
      exact hw w hw' k hk'
theorem chl_hd {N : Nat} : ∀ m s l, l ∈ chl N m s → ∃ r, l = s :: r := by
  intro m s l h
  cases m with
  | zero => exact ⟨[], List.mem_singleton.mp h⟩
  | succ m =>
    obtain ⟨w, -, hw⟩ := List.mem_flatMap.mp h
    obtain ⟨r, -, e⟩ := List.mem_map.mp hw
    exact ⟨r, e.symm⟩
theorem chl_chk {N : Nat} (hN : N ≤ 7) : ∀ m s l, m ≤ N → s < 2 ^ N → szo s N = m → l ∈ chl N m s → chk N l (N - m) = true := by
  intro m
  induction m with
  | zero =>
    intro s l hm hs hz hl
    have e : l = [s] := List.mem_singleton.mp hl
    subst e
    show (Nat.blt s (2 ^ N) && (szo s N == N - (N - 0)) && true && true) = true
    rw [hz, show N - (N - 0) = 0 by omega, show Nat.blt s (2 ^ N) = true by simpa [Nat.blt_eq] using hs]; rfl
  | succ m ih =>
    intro s l hm hs hz hl
    obtain ⟨w, hw, hl⟩ := List.mem_flatMap.mp hl
    obtain ⟨r, hr, e⟩ := List.mem_map.mp hl
    obtain ⟨w1, w2⟩ := bits_in hw
    obtain ⟨x1, x2⟩ := sz_x N (by omega) s hs w w1 w2
    obtain ⟨y1, y2, y3⟩ := sz_o N (by omega) s hs w w1 w2
    have h1 := ih _ r (by omega) x1 (by omega) hr
    obtain ⟨t, ht⟩ := chl_hd _ _ _ hr
    subst e
    subst ht
    show (Nat.blt s (2 ^ N) && (szo s N == N - (N - (m + 1))) && (Nat.blt (Nat.log2 (s ^^^ (s ^^^ 2 ^ w))) N && (s == (s ^^^ 2 ^ w) ||| 2 ^ Nat.log2 (s ^^^ (s ^^^ 2 ^ w))) && ((s ^^^ 2 ^ w) / 2 ^ Nat.log2 (s ^^^ (s ^^^ 2 ^ w)) % 2 == 0)) && chk N ((s ^^^ 2 ^ w) :: t) (N - (m + 1) + 1)) = true
    rw [y2, y1, y3, show N - (m + 1) + 1 = N - m by omega, h1, hz, show N - (N - (m + 1)) = m + 1 by omega, show Nat.blt s (2 ^ N) = true by simpa [Nat.blt_eq] using hs, show Nat.blt w N = true by simpa [Nat.blt_eq] using w1]
    simp
theorem bits_len (s : Nat) : ∀ n, ((List.range n).filter (fun w => s / 2 ^ w % 2 == 1)).length = szo s n := by
  intro n
  induction n with
  | zero => rfl
  | succ n ih =>
    rw [List.range_succ, List.filter_append, List.length_append, ih]
    show szo s n + _ = szo s n + _
    congr 1
    by_cases q : s / 2 ^ n % 2 = 1
    · rw [List.filter_cons_of_pos (by rw [q]; rfl), q]; rfl
    · rw [List.filter_cons_of_neg (by simpa using q)]
      show 0 = _
      omega
theorem lsum_const {α : Type} (c : Nat) (l : List α) : lsum (fun _ => c) l = l.length * c := by
  induction l with
  | nil => rw [List.length_nil, Nat.zero_mul]; rfl
  | cons a l ih => show c + _ = _; rw [ih, List.length_cons, Nat.succ_mul]; omega
theorem lsum_add {α : Type} (f g : α → Nat) (l : List α) : lsum (fun a => f a + g a) l = lsum f l + lsum g l := by
  induction l with
  | nil => rfl
  | cons a l ih => show (f a + g a) + _ = (f a + _) + (g a + _); rw [ih]; omega
theorem lsum_mul {α : Type} (c : Nat) (f : α → Nat) (l : List α) : lsum (fun a => c * f a) l = c * lsum f l := by
  induction l with
  | nil => rfl
  | cons a l ih => show c * f a + _ = c * (f a + _); rw [ih, Nat.mul_add]
theorem lsum_len {α : Type} (l : List α) : lsum (fun _ => 1) l = l.length := by rw [lsum_const, Nat.mul_one]
theorem chl_len {N : Nat} (hN : N ≤ 7) : ∀ m s, s < 2 ^ N → szo s N = m → (chl N m s).length = fac m := by
  intro m
  induction m with
  | zero => intro s _ _; rfl
  | succ m ih =>
    intro s hs hz
    rw [← lsum_len]
    show lsum _ ((bits N s).flatMap _) = _
    rw [lsum_flat]
    have e : ∀ w ∈ bits N s, lsum (fun _ => 1) ((chl N m (s ^^^ 2 ^ w)).map (fun l => s :: l)) = fac m := by
      intro w hw
      obtain ⟨w1, w2⟩ := bits_in hw
      obtain ⟨x1, x2⟩ := sz_x N (by omega) s hs w w1 w2
      rw [lsum_len, List.length_map]
      exact ih _ x1 (by omega)
    rw [lsum_congr e, lsum_const]
    unfold bits
    rw [bits_len, hz, Nat.mul_comm]; rfl
/-- sums over pairs of neighbours, level by level -/
def stW (N : Nat) (l : List (Nat × Nat)) : List (Nat × Nat) := l.flatMap (fun q => (bits N q.1).map (fun w => (q.1 ^^^ 2 ^ w, q.2)))
def coW (N m : Nat) (l : List (Nat × Nat)) : List (Nat × Nat) := l.flatMap (fun q => (bits N q.1).map (fun w => (cd N q.1 (q.1 ^^^ 2 ^ w), q.2 * fac m)))
def inW (s c : Nat) : List (Nat × Nat) → List (Nat × Nat)
  | [] => [(s, c)]
  | q :: r => if q.1 = s then (s, q.2 + c) :: r else q :: inW s c r
def mgW : List (Nat × Nat) → List (Nat × Nat)
  | [] => []
  | q :: r => inW q.1 q.2 (mgW r)
def toW (N : Nat) : Nat → List (Nat × Nat) → List (Nat × Nat)
  | 0, _ => []
  | m + 1, l => coW N m l ++ toW N m (mgW (stW N l))
theorem inW_sum (f : Nat → Nat) (s c : Nat) : ∀ l, lsum (fun q => q.2 * f q.1) (inW s c l) = c * f s + lsum (fun q => q.2 * f q.1) l := by
  intro l
  induction l with
  | nil => rfl
  | cons q r ih =>
    show lsum _ (if q.1 = s then _ else _) = _
    by_cases e : q.1 = s
    · rw [if_pos e]
      show (q.2 + c) * f s + _ = c * f s + (q.2 * f q.1 + _)
      rw [e, Nat.add_mul]; omega
    · rw [if_neg e]
      show q.2 * f q.1 + _ = c * f s + (q.2 * f q.1 + _)
      rw [ih]; omega
theorem mgW_sum (f : Nat → Nat) : ∀ l, lsum (fun q => q.2 * f q.1) (mgW l) = lsum (fun q => q.2 * f q.1) l := by
  intro l
  induction l with
  | nil => rfl
  | cons q r ih => show lsum _ (inW q.1 q.2 (mgW r)) = q.2 * f q.1 + _; rw [inW_sum, ih]
theorem inW_mem {s c : Nat} {P : Nat → Prop} (hs : P s) : ∀ l, (∀ q ∈ l, P q.1) → ∀ q ∈ inW s c l, P q.1 := by
  intro l
  induction l with
  | nil => intro _ q hq; rw [List.mem_singleton.mp hq]; exact hs
  | cons a r ih =>
    intro h q hq
    have hq : q ∈ (if a.1 = s then (s, a.2 + c) :: r else a :: inW s c r) := hq
    by_cases e : a.1 = s
    · rw [if_pos e] at hq
      rcases List.mem_cons.mp hq with e2 | e2
      · rw [e2]; exact hs
      · exact h q (List.mem_cons_of_mem _ e2)
    · rw [if_neg e] at hq
      rcases List.mem_cons.mp hq with e2 | e2
      · rw [e2]; exact h a List.mem_cons_self
      · exact ih (fun q hq => h q (List.mem_cons_of_mem _ hq)) q e2
theorem mgW_mem {P : Nat → Prop} : ∀ l : List (Nat × Nat), (∀ q ∈ l, P q.1) → ∀ q ∈ mgW l, P q.1 := by
  intro l
  induction l with
  | nil => intro _ q hq; cases hq
  | cons a r ih => intro h; exact inW_mem (h a List.mem_cons_self) _ (ih (fun q hq => h q (List.mem_cons_of_mem _ hq)))
theorem phi_s {N : Nat} (hN : N ≤ 7) (g : Nat → Nat) {m s : Nat} (hs : s < 2 ^ N) (hz : szo s N = m + 1) : lsum (fun l => lsum g (prs N l)) (chl N (m + 1) s) = lsum (fun w => fac m * g (cd N s (s ^^^ 2 ^ w)) + lsum (fun l => lsum g (prs N l)) (chl N m (s ^^^ 2 ^ w))) (bits N s) := by
  show lsum _ ((bits N s).flatMap _) = _
  rw [lsum_flat]
  refine lsum_congr (fun w hw => ?_)
  obtain ⟨w1, w2⟩ := bits_in hw
  obtain ⟨x1, x2⟩ := sz_x N (by omega) s hs w w1 w2
  rw [lsum_map]
  have e : ∀ l ∈ chl N m (s ^^^ 2 ^ w), lsum g (prs N (s :: l)) = g (cd N s (s ^^^ 2 ^ w)) + lsum g (prs N l) := by
    intro l hl
    obtain ⟨r, hr⟩ := chl_hd _ _ _ hl
    subst hr
    rfl
  rw [lsum_congr e, lsum_add, lsum_const, chl_len hN m _ x1 (by omega)]
theorem psi {N : Nat} (hN : N ≤ 7) (g : Nat → Nat) : ∀ m (l : List (Nat × Nat)), (∀ q ∈ l, q.1 < 2 ^ N ∧ szo q.1 N = m) → lsum (fun q => q.2 * lsum (fun l => lsum g (prs N l)) (chl N m q.1)) l = lsum (fun q => q.2 * g q.1) (toW N m l) := by
  intro m
  induction m with
  | zero =>
    intro l _
    show lsum (fun q => q.2 * 0) l = 0
    rw [lsum_congr (g := fun _ => 0) (fun q _ => Nat.mul_zero _), lsum_const, Nat.mul_zero]
  | succ m ih =>
    intro l h
    have hst : ∀ q ∈ stW N l, q.1 < 2 ^ N ∧ szo q.1 N = m := by
      intro q hq
      obtain ⟨a, ha, hq⟩ := List.mem_flatMap.mp hq
      obtain ⟨w, hw, e⟩ := List.mem_map.mp hq
      obtain ⟨w1, w2⟩ := bits_in hw
      obtain ⟨a1, a2⟩ := h a ha
      obtain ⟨x1, x2⟩ := sz_x N (by omega) a.1 a1 w w1 w2
      rw [← e]
      exact ⟨x1, by show szo (a.1 ^^^ 2 ^ w) N = m; omega⟩
    show _ = lsum _ (coW N m l ++ toW N m (mgW (stW N l)))
    rw [lsum_app, ← ih _ (mgW_mem (P := fun s => s < 2 ^ N ∧ szo s N = m) _ hst), mgW_sum (fun s => lsum (fun l => lsum g (prs N l)) (chl N m s))]
    unfold coW stW
    rw [lsum_flat, lsum_flat, ← lsum_add]
    refine lsum_congr (fun q hq => ?_)
    obtain ⟨a1, a2⟩ := h q hq
    rw [lsum_map, lsum_map, ← lsum_add, phi_s hN g a1 a2, ← lsum_mul]
    refine lsum_congr (fun w _ => ?_)
    show q.2 * (fac m * _ + _) = q.2 * fac m * _ + q.2 * _
    rw [Nat.mul_add, Nat.mul_assoc]
def plx (N : Nat) : List (Nat × Nat) := ((List.range (N * 2 ^ N)).map (fun k => (k, mult N k))).filter (fun q => Nat.blt 0 q.2)
theorem plx_sum (N : Nat) (g : Nat → Nat) : lsum (fun q => q.2 * g q.1) (plx N) = sumf (fun k => mult N k * g k) (N * 2 ^ N) := by
  unfold plx
  have key : ∀ l : List (Nat × Nat), lsum (fun q => q.2 * g q.1) (l.filter (fun q => Nat.blt 0 q.2)) = lsum (fun q => q.2 * g q.1) l := by
    intro l
    induction l with
    | nil => rfl
    | cons q r ih =>
      show _ = q.2 * g q.1 + _
      by_cases h : Nat.blt 0 q.2 = true
      · rw [List.filter_cons_of_pos (p := fun q : Nat × Nat => Nat.blt 0 q.2) h]; show q.2 * g q.1 + _ = _; rw [ih]
      · rw [List.filter_cons_of_neg (p := fun q : Nat × Nat => Nat.blt 0 q.2) h, ih]
        have : q.2 = 0 := by
          have h2 : ¬ 0 < q.2 := fun h3 => h (by simpa [Nat.blt_eq] using h3)
          omega
        rw [this, Nat.zero_mul, Nat.zero_add]
  rw [key, lsum_map, lsum_range]
/-- what is left to the kernel, for a number of wires -/
def KK (N : Nat) : Prop := gck N (gen N (ord0 N) 0 1) = true ∧ (gen N (ord0 N) 0 1).length < 5042 ∧ (gen N (ord0 N) 0 1).head? = some (gen N (ord0 N) 0 1).head! ∧ dec N (gen N (ord0 N) 0 1).head! = ord0 N ∧ (∀ e ∈ gen N (ord0 N) 0 1, ick N (dec N e) = true) ∧ mso Nat.ble 13 ((gen N (ord0 N) 0 1).map (fun e => keyL N (dec N e) 0)) = kl N N (2 ^ N - 1) 0 ∧ mso (fun a b => Nat.ble a.1 b.1) 9 (toW N N [(2 ^ N - 1, 1)]) = plx N
theorem KK_KF {N : Nat} (hN : N ≤ 7) (h : KK N) : KF N := by
  obtain ⟨h1, h2, h3, h4, h5, h6, h7⟩ := h
  generalize gen N (ord0 N) 0 1 = l at h1 h2 h3 h4 h5 h6
  have hp := pw_pos N
  have hfull : 2 ^ N - 1 < 2 ^ N := by omega
  have hsz := sz_N N (by omega)
  cases l with
  | nil => cases h3
  | cons e r =>
    have h4 : dec N e = ord0 N := h4
    obtain ⟨v1, v2⟩ := gck_spec r e h1 5041 (by rw [List.length_cons] at h2; omega)
    rw [h4] at v1 v2
    have hVV : VV N = (e :: r).map (dec N) := v1
    have hperm : ((VV N).map (fun p => chainF (tmL p) 0 N)).Perm (chl N N (2 ^ N - 1)) := by
      rw [hVV, List.map_map, (kl_spec hN N (2 ^ N - 1) 0 hfull hsz).1, ← h6]
      refine List.Perm.trans ?_ ((mso_perm Nat.ble 13 _).symm.map _)
      rw [List.map_map]
      refine List.Perm.of_eq (List.map_congr_left (fun e he => ?_))
      exact ick_chain hN (h5 e he)
    refine ⟨v2, hperm, fun g => ?_, fun p hp => ?_, ?_⟩
    · have h8 := psi hN g N [(2 ^ N - 1, 1)] (fun q hq => by rw [List.mem_singleton.mp hq]; exact ⟨hfull, hsz⟩)
      have h9 : 1 * lsum (fun l => lsum g (prs N l)) (chl N N (2 ^ N - 1)) + 0 = lsum (fun q => q.2 * g q.1) (toW N N [(2 ^ N - 1, 1)]) := h8
      rw [Nat.one_mul, Nat.add_zero] at h9
      rw [h9, ← lsum_perm _ (mso_perm (fun a b => Nat.ble a.1 b.1) 9 (toW N N [(2 ^ N - 1, 1)])), h7, plx_sum]
    · refine ⟨?_, ?_⟩
      · have := chl_chk hN N (2 ^ N - 1) _ (Nat.le_refl N) hfull hsz (hperm.mem_iff.mp (List.mem_map.mpr ⟨p, hp, rfl⟩))
        rw [Nat.sub_self] at this
        exact this
      · rw [hVV] at hp
        obtain ⟨e2, he, rfl⟩ := List.mem_map.mp hp
        have := h5 e2 he
        unfold ick at this
        rw [Bool.and_eq_true] at this
        exact this.1
    · have := hperm.length_eq
      rw [List.length_map] at this
      rw [this, chl_len hN N _ hfull hsz]
end
section
/-! the two constructors -/
set_option maxRecDepth 100000
/-- how many wires, out of what the constructor is given -/
def nw (v : Int32) : Nat := if nI 2 ≤ v then (if v ≤ nI 7 then v.toNatClampNeg else 7) else 2
theorem nw_0 {v : Int32} (h : ¬ nI 2 ≤ v) : nw v = 2 := by unfold nw; rw [if_neg h]
theorem nw_7 {v : Int32} (h : nI 2 ≤ v) (h2 : ¬ v ≤ nI 7) : nw v = 7 := by unfold nw; rw [if_pos h, if_neg h2]
theorem nw_m {v : Int32} (h : nI 2 ≤ v) (h2 : v ≤ nI 7) : 2 ≤ nw v ∧ nw v ≤ 7 ∧ v = nI (nw v) := by
  have h0 : ¬ v < 0 := fun q => absurd (Int32.lt_of_le_of_lt h q) (by decide)
  obtain ⟨j, hj, rfl⟩ := nI_of h0
  have e : nw (nI j) = j := by unfold nw; rw [if_pos h, if_pos h2, nI_clamp hj]
  rw [e]
  exact ⟨(nI_leI (by decide) hj).mp h, (nI_leI hj (by decide)).mp h2, rfl⟩
theorem nw_in (v : Int32) : 2 ≤ nw v ∧ nw v ≤ 7 := by
  by_cases h : nI 2 ≤ v
  · by_cases h2 : v ≤ nI 7
    · exact ⟨(nw_m h h2).1, (nw_m h h2).2.1⟩
    · rw [nw_7 h h2]; decide
  · rw [nw_0 h]; decide
def pick9 {α : Type} (a0 a1 a2 a3 a4 a5 a6 a7 a8 : α) : Nat → α
  | 0 => a0
  | 1 => a1
  | 2 => a2
  | 3 => a3
  | 4 => a4
  | 5 => a5
  | 6 => a6
  | 7 => a7
  | _ => a8
def pick7 {α : Type} (a0 a1 a2 a3 a4 a5 a6 : α) : Nat → α
  | 0 => a0
  | 1 => a1
  | 2 => a2
  | 3 => a3
  | 4 => a4
  | 5 => a5
  | _ => a6
abbrev iU : Type := (Nat → ClassId) × (Nat → Nat) × (Nat → Nat → Int32)
def f00 : Nat → Nat → Int32 := fun _ _ => 0
def z00 : Nat → Nat := fun _ => 0
def g00 : Nat → Int32 := fun _ => 0
abbrev fX1 : List Value := [.int (nI 0), .int (nI 0), .null, .null, .null, .null, .null, .null, .null, .null, .null]
abbrev fX2 : List Value := [.int (nI 0), .int (nI 0), .null, .null, .null, .null, .null, .null, .null]
theorem mF_00 (N : Nat) : mF f00 N 0 z00 z00 g00 := ⟨fun k hk => absurd hk (Nat.not_lt_zero k), fun _ _ => rfl⟩
theorem ok_00 {N : Nat} (h2 : 2 ≤ N) (h7 : N ≤ 7) : ok_net N 0 z00 z00 := ⟨h2, h7, by decide, fun k hk => absurd hk (Nat.not_lt_zero k)⟩
set_option maxHeartbeats 4000000 in
theorem x_init_tail {E : gE} {X : ob_X} {N : Nat} {v : Int32} (G : ob_G K1 X E cX1_init 3 1 12) (h7 : N ≤ 7) (ret : ∀ (F' : Nat → Nat → Int32) (lv : List Value), xF F' N 0 z00 z00 g00 → gm E 3 (ob_I K1 X (nI N, nI 0, F')) lv 141 []) : gm E 3 (ob_I K1 X (nI N, nI 0, f00)) [.ref (ob_h X), .int v] 104 [] := by
  have g := G.1
  refine gm_aload_n g dX1_init_104 rfl ?_
  refine ob_geta G 8 rfl q39 dX1_init_105 ?_
  refine gm_iconst (v := nI 0) g dX1_init_108 (by decide) ?_
  refine gm_iconst (v := nI 1) g dX1_init_109 (by decide) ?_
  refine ob_iast G 8 rfl dX1_init_110 (by decide) ?_
  refine gm_iconst (v := nI 1) g dX1_init_111 (by decide) ?_
  refine gm_istore_n (lv' := [.ref (ob_h X), .int v, .int (nI 1)]) g dX1_init_112 rfl rfl ?_
  refine lq1 (A := Nat → Nat → Int32) 8 (fun i F' => gm E 3 (ob_I K1 X (nI N, nI 0, F')) [.ref (ob_h X), .int v, .int (nI i)] 113 []) (fun i F' => 1 ≤ i ∧ (∀ k, k < i → F' 8 k = nI (fac k)) ∧ F' 2 = f00 2) ?_ 1 _ (by decide) ⟨Nat.le_refl 1, fun k hk => ?_, ?_⟩
  · intro i F' hle hv ih
    obtain ⟨h1, hp, h2⟩ := hv
    refine gm_iload_n g dX1_init_113 rfl ?_
    refine gm_bipush (v := nI 8) g dX1_init_114 (by decide) ?_
    refine gN_icmp_ge g 141 dX1_init_116 (by decide) (by omega) (by omega) (fun c => ?_) (fun c => ?_)
    · have e : i = 8 := by omega
      subst e
      exact ret F' _ ⟨⟨fun k hk => absurd hk (Nat.not_lt_zero k), fun w _ => by rw [h2]; rfl⟩, hp⟩
    · obtain ⟨k, rfl⟩ : ∃ k, i = k + 1 := ⟨i - 1, by omega⟩
      refine gm_aload_n g dX1_init_119 rfl ?_
      refine ob_geta G 8 rfl q39 dX1_init_120 ?_
      refine gm_iload_n g dX1_init_123 rfl ?_
      refine gm_aload_n g dX1_init_124 rfl ?_
      refine ob_geta G 8 rfl q39 dX1_init_125 ?_
      refine gm_iload_n g dX1_init_128 rfl ?_
      refine gm_iconst (v := nI 1) g dX1_init_129 (by decide) ?_
      refine gN_isub g dX1_init_130 (by omega) ?_
      refine ob_iald G 8 rfl (v := nI (fac k)) dX1_init_131 (by omega) (by rw [Nat.add_sub_cancel]; exact hp k (by omega)) ?_
      refine gm_iload_n g dX1_init_132 rfl ?_
      refine gN_imul g dX1_init_133 ?_
      refine ob_iast G 8 rfl dX1_init_134 (by omega) ?_
      refine gN_iinc (lv' := [.ref (ob_h X), .int v, .int (nI ((k + 1) + 1))]) g dX1_init_135 rfl rfl rfl ?_
      refine gm_goto g 113 dX1_init_138 (by decide) ?_
      refine ih (by omega) _ ⟨by omega, ?_, ?_⟩
      · intro x hx
        rw [va_up_self]
        exact fill_s (z := fac) hp x hx
      · rw [va_up_ne _ _ (by decide)]; exact h2
  · rw [va_up_self]
    have e : k = 0 := by omega
    subst e
    rw [upd_s]; rfl
  · rw [va_up_ne _ _ (by decide)]
set_option maxHeartbeats 8000000 in
theorem x_init (l : Launch) (D : va_G) (h sz : Nat) (v : Int32) : Met l yX1_init (ws_ yX1_init cX1_init 3 none) ({ frames := 1, cells := 9, slots := 461, locals := 12 }) (va_Pc [.ref h, .int v] (fun U => U.heap.size = sz ∧ va_P D vwCl [(h, .inr (0, fX1))] U.heap ∧ va_K D vwCl [] U ∧ va_D (fun _ => True) [(h, .inr (0, fX1))])) (va_Qv (fun u : iU => xF u.2.2 (nw v) 0 z00 z00 g00) (fun u t => va_P D vwCl (ob_W K1 u.1 h u.2.1 (nI (nw v), nI 0, u.2.2)) t.heap ∧ va_K D vwCl (ob_ty u.1 0 shX1) t ∧ va_D (va_A [(h, .inr (0, fX1))] sz) (ob_W K1 u.1 h u.2.1 (nI (nw v), nI 0, u.2.2))) (va_A [(h, .inr (0, fX1))] sz)) 9 461 (va_A [(h, .inr (0, fX1))] sz) := by
  refine Met.ofW (cc := cX1_init) (maxL := 3) (ret := none) (by decide) rfl ?_
  intro p e s m args below meth c s₁ B hml hv
  obtain ⟨rfl, hsz, hP, hK, hD0⟩ := hv
  have hx := B.exec
  have hb := B.bytes
  have hr := B.returns
  have hts := atoms_spec (ws := ws_ yX1_init cX1_init 3 none) B.pre
  have hts : ∀ w ∈ lw_all, w.before _ s = true := fun w h => hts w (List.mem_cons_of_mem _ h)
  have hown : s.vm.findClass RX1 = some m.cls := findClass_of_methodNamed B.named
  have hlocks := B.notSynchronized
  have hin : meth.name = "<init>" := (name_of_methodNamed B.named B.method).1
  subst hsz
  have hD := hD0.self (sz := s.heap.size)
  have hA : ∀ q : Nat, s.heap.size ≤ q → va_A [(h, .inr (0, fX1))] s.heap.size q := fun q h => Or.inr h
  generalize va_A [(h, .inr (0, fX1))] s.heap.size = A at hD hA ⊢
  have hS : va_S A s.heap s.heap [] := va_S.rf
  have hl := lv_entry ([.ref h, .int v]) (n := 3) (Nat.le_of_ble_eq_true rfl)
  rw [lg_entry_eq]
  generalize (lg_sl ([.ref h, .int v]) ++ List.replicate (3 - (lg_sl ([.ref h, .int v])).length) Slot.unset).toArray = ls at hl ⊢
  have hl : lv_has ls 3 [(0, .ref h), (1, .int v)] := hl
  refine lv_aload_n hx hb dX1_init_0 rfl (lv_at hl 0 rfl) ?_
  refine W.objInit hx hb hown (hts _ q26) (hts _ q27) (hts _ q28) rfl (by rw [hml]; exact hl.1) rfl dX1_init_1 (Nat.le_of_ble_eq_true rfl) (Nat.le_of_ble_eq_true rfl) ?_
  refine W.eq (g2 := F0 m 4 ls []) rfl ?_
  refine lv_aload_n hx hb dX1_init_4 rfl (lv_at hl 0 rfl) ?_
  refine lv_bipush (v := nI 24) hx hb dX1_init_5 (by decide) ?_
  refine va_newa (atype := .byte) (ty := .byte) (N' := 24) (a0 := (24, .inl (fun _ => 0))) hx hb (hts _ q63) rfl hK hP hD hS hA (fun _ => rfl) (by decide) (by decide) (by decide) (Nat.le_of_ble_eq_true rfl) (Nat.le_of_ble_eq_true rfl) dX1_init_7 (fun a0 c0 H hK hP hD hS => ?_)
  have hK : va_K D vwCl [(c0, .byte)] s := hK
  have hP : va_P D vwCl [(h, .inr (0, [.int (nI 0), .int (nI 0), .null, .null, .null, .null, .null, .null, .null, .null, .null])), (a0, .inl (c0, 24, .inl (fun _ => 0)))] H := hP
  have hD : va_D A [(h, .inr (0, [.int (nI 0), .int (nI 0), .null, .null, .null, .null, .null, .null, .null, .null, .null])), (a0, .inl (c0, 24, .inl (fun _ => 0)))] := hD
  refine va_putF (ci := 0) (C := RX1) (T := TX1) (N := 11) (v := .ref a0) (ty := .array .byte) hx hb hts in_X1 tyX1 tyX1_ok nmX1 hown hK hP hD hS 0 rfl rfl 2 (by decide) (hts _ q31) (fun _ h9 => h9) rfl hin rfl (by decide +kernel) rfl rfl (by simp) dX1_init_9 (fun H locs hP hD hS => ?_)
  have hP : va_P D vwCl [(h, .inr (0, [.int (nI 0), .int (nI 0), .ref a0, .null, .null, .null, .null, .null, .null, .null, .null])), (a0, .inl (c0, 24, .inl (fun _ => 0)))] H := hP
  have hD : va_D A [(h, .inr (0, [.int (nI 0), .int (nI 0), .ref a0, .null, .null, .null, .null, .null, .null, .null, .null])), (a0, .inl (c0, 24, .inl (fun _ => 0)))] := hD
  refine lv_aload_n hx hb dX1_init_12 rfl (lv_at hl 0 rfl) ?_
  refine lv_bipush (v := nI 24) hx hb dX1_init_13 (by decide) ?_
  refine va_newa (atype := .byte) (ty := .byte) (N' := 24) (a0 := (24, .inl (fun _ => 0))) hx hb (hts _ q63) rfl hK hP hD hS hA (fun _ => rfl) (by decide) (by decide) (by decide) (Nat.le_of_ble_eq_true rfl) (Nat.le_of_ble_eq_true rfl) dX1_init_15 (fun a1 c1 H hK hP hD hS => ?_)
  have hK : va_K D vwCl [(c0, .byte), (c1, .byte)] s := hK
  have hP : va_P D vwCl [(h, .inr (0, [.int (nI 0), .int (nI 0), .ref a0, .null, .null, .null, .null, .null, .null, .null, .null])), (a0, .inl (c0, 24, .inl (fun _ => 0))), (a1, .inl (c1, 24, .inl (fun _ => 0)))] H := hP
  have hD : va_D A [(h, .inr (0, [.int (nI 0), .int (nI 0), .ref a0, .null, .null, .null, .null, .null, .null, .null, .null])), (a0, .inl (c0, 24, .inl (fun _ => 0))), (a1, .inl (c1, 24, .inl (fun _ => 0)))] := hD
  refine va_putF (ci := 0) (C := RX1) (T := TX1) (N := 11) (v := .ref a1) (ty := .array .byte) hx hb hts in_X1 tyX1 tyX1_ok nmX1 hown hK hP hD hS 0 rfl rfl 3 (by decide) (hts _ q32) (fun _ h9 => h9) rfl hin rfl (by decide +kernel) rfl rfl (by simp) dX1_init_17 (fun H locs hP hD hS => ?_)
  have hP : va_P D vwCl [(h, .inr (0, [.int (nI 0), .int (nI 0), .ref a0, .ref a1, .null, .null, .null, .null, .null, .null, .null])), (a0, .inl (c0, 24, .inl (fun _ => 0))), (a1, .inl (c1, 24, .inl (fun _ => 0)))] H := hP
  have hD : va_D A [(h, .inr (0, [.int (nI 0), .int (nI 0), .ref a0, .ref a1, .null, .null, .null, .null, .null, .null, .null])), (a0, .inl (c0, 24, .inl (fun _ => 0))), (a1, .inl (c1, 24, .inl (fun _ => 0)))] := hD
  refine lv_aload_n hx hb dX1_init_20 rfl (lv_at hl 0 rfl) ?_
  refine lv_bipush (v := nI 7) hx hb dX1_init_21 (by decide) ?_
  refine va_newa (atype := .int) (ty := .int) (N' := 7) (a0 := (7, .inl (fun _ => 0))) hx hb (hts _ q64) rfl hK hP hD hS hA (fun _ => rfl) (by decide) (by decide) (by decide) (Nat.le_of_ble_eq_true rfl) (Nat.le_of_ble_eq_true rfl) dX1_init_23 (fun a2 c2 H hK hP hD hS => ?_)
  have hK : va_K D vwCl [(c0, .byte), (c1, .byte), (c2, .int)] s := hK
  have hP : va_P D vwCl [(h, .inr (0, [.int (nI 0), .int (nI 0), .ref a0, .ref a1, .null, .null, .null, .null, .null, .null, .null])), (a0, .inl (c0, 24, .inl (fun _ => 0))), (a1, .inl (c1, 24, .inl (fun _ => 0))), (a2, .inl (c2, 7, .inl (fun _ => 0)))] H := hP
  have hD : va_D A [(h, .inr (0, [.int (nI 0), .int (nI 0), .ref a0, .ref a1, .null, .null, .null, .null, .null, .null, .null])), (a0, .inl (c0, 24, .inl (fun _ => 0))), (a1, .inl (c1, 24, .inl (fun _ => 0))), (a2, .inl (c2, 7, .inl (fun _ => 0)))] := hD
  refine va_putF (ci := 0) (C := RX1) (T := TX1) (N := 11) (v := .ref a2) (ty := .array .int) hx hb hts in_X1 tyX1 tyX1_ok nmX1 hown hK hP hD hS 0 rfl rfl 4 (by decide) (hts _ q33) (fun _ h9 => h9) rfl hin rfl (by decide +kernel) rfl rfl (by simp) dX1_init_25 (fun H locs hP hD hS => ?_)
  have hP : va_P D vwCl [(h, .inr (0, [.int (nI 0), .int (nI 0), .ref a0, .ref a1, .ref a2, .null, .null, .null, .null, .null, .null])), (a0, .inl (c0, 24, .inl (fun _ => 0))), (a1, .inl (c1, 24, .inl (fun _ => 0))), (a2, .inl (c2, 7, .inl (fun _ => 0)))] H := hP
  have hD : va_D A [(h, .inr (0, [.int (nI 0), .int (nI 0), .ref a0, .ref a1, .ref a2, .null, .null, .null, .null, .null, .null])), (a0, .inl (c0, 24, .inl (fun _ => 0))), (a1, .inl (c1, 24, .inl (fun _ => 0))), (a2, .inl (c2, 7, .inl (fun _ => 0)))] := hD
  refine lv_aload_n hx hb dX1_init_28 rfl (lv_at hl 0 rfl) ?_
  refine lv_bipush (v := nI 7) hx hb dX1_init_29 (by decide) ?_
  refine va_newa (atype := .int) (ty := .int) (N' := 7) (a0 := (7, .inl (fun _ => 0))) hx hb (hts _ q64) rfl hK hP hD hS hA (fun _ => rfl) (by decide) (by decide) (by decide) (Nat.le_of_ble_eq_true rfl) (Nat.le_of_ble_eq_true rfl) dX1_init_31 (fun a3 c3 H hK hP hD hS => ?_)
  have hK : va_K D vwCl [(c0, .byte), (c1, .byte), (c2, .int), (c3, .int)] s := hK
  have hP : va_P D vwCl [(h, .inr (0, [.int (nI 0), .int (nI 0), .ref a0, .ref a1, .ref a2, .null, .null, .null, .null, .null, .null])), (a0, .inl (c0, 24, .inl (fun _ => 0))), (a1, .inl (c1, 24, .inl (fun _ => 0))), (a2, .inl (c2, 7, .inl (fun _ => 0))), (a3, .inl (c3, 7, .inl (fun _ => 0)))] H := hP
  have hD : va_D A [(h, .inr (0, [.int (nI 0), .int (nI 0), .ref a0, .ref a1, .ref a2, .null, .null, .null, .null, .null, .null])), (a0, .inl (c0, 24, .inl (fun _ => 0))), (a1, .inl (c1, 24, .inl (fun _ => 0))), (a2, .inl (c2, 7, .inl (fun _ => 0))), (a3, .inl (c3, 7, .inl (fun _ => 0)))] := hD
  refine va_putF (ci := 0) (C := RX1) (T := TX1) (N := 11) (v := .ref a3) (ty := .array .int) hx hb hts in_X1 tyX1 tyX1_ok nmX1 hown hK hP hD hS 0 rfl rfl 5 (by decide) (hts _ q34) (fun _ h9 => h9) rfl hin rfl (by decide +kernel) rfl rfl (by simp) dX1_init_33 (fun H locs hP hD hS => ?_)
  have hP : va_P D vwCl [(h, .inr (0, [.int (nI 0), .int (nI 0), .ref a0, .ref a1, .ref a2, .ref a3, .null, .null, .null, .null, .null])), (a0, .inl (c0, 24, .inl (fun _ => 0))), (a1, .inl (c1, 24, .inl (fun _ => 0))), (a2, .inl (c2, 7, .inl (fun _ => 0))), (a3, .inl (c3, 7, .inl (fun _ => 0)))] H := hP
  have hD : va_D A [(h, .inr (0, [.int (nI 0), .int (nI 0), .ref a0, .ref a1, .ref a2, .ref a3, .null, .null, .null, .null, .null])), (a0, .inl (c0, 24, .inl (fun _ => 0))), (a1, .inl (c1, 24, .inl (fun _ => 0))), (a2, .inl (c2, 7, .inl (fun _ => 0))), (a3, .inl (c3, 7, .inl (fun _ => 0)))] := hD
  refine lv_aload_n hx hb dX1_init_36 rfl (lv_at hl 0 rfl) ?_
  refine lv_sipush (v := nI 128) hx hb dX1_init_37 (by decide) ?_
  refine va_newa (atype := .short) (ty := .short) (N' := 128) (a0 := (128, .inl (fun _ => 0))) hx hb (hts _ q65) rfl hK hP hD hS hA (fun _ => rfl) (by decide) (by decide) (by decide) (Nat.le_of_ble_eq_true rfl) (Nat.le_of_ble_eq_true rfl) dX1_init_40 (fun a4 c4 H hK hP hD hS => ?_)
  have hK : va_K D vwCl [(c0, .byte), (c1, .byte), (c2, .int), (c3, .int), (c4, .short)] s := hK
  have hP : va_P D vwCl [(h, .inr (0, [.int (nI 0), .int (nI 0), .ref a0, .ref a1, .ref a2, .ref a3, .null, .null, .null, .null, .null])), (a0, .inl (c0, 24, .inl (fun _ => 0))), (a1, .inl (c1, 24, .inl (fun _ => 0))), (a2, .inl (c2, 7, .inl (fun _ => 0))), (a3, .inl (c3, 7, .inl (fun _ => 0))), (a4, .inl (c4, 128, .inl (fun _ => 0)))] H := hP
  have hD : va_D A [(h, .inr (0, [.int (nI 0), .int (nI 0), .ref a0, .ref a1, .ref a2, .ref a3, .null, .null, .null, .null, .null])), (a0, .inl (c0, 24, .inl (fun _ => 0))), (a1, .inl (c1, 24, .inl (fun _ => 0))), (a2, .inl (c2, 7, .inl (fun _ => 0))), (a3, .inl (c3, 7, .inl (fun _ => 0))), (a4, .inl (c4, 128, .inl (fun _ => 0)))] := hD
  refine va_putF (ci := 0) (C := RX1) (T := TX1) (N := 11) (v := .ref a4) (ty := .array .short) hx hb hts in_X1 tyX1 tyX1_ok nmX1 hown hK hP hD hS 0 rfl rfl 6 (by decide) (hts _ q35) (fun _ h9 => h9) rfl hin rfl (by decide +kernel) rfl rfl (by simp) dX1_init_42 (fun H locs hP hD hS => ?_)
  have hP : va_P D vwCl [(h, .inr (0, [.int (nI 0), .int (nI 0), .ref a0, .ref a1, .ref a2, .ref a3, .ref a4, .null, .null, .null, .null])), (a0, .inl (c0, 24, .inl (fun _ => 0))), (a1, .inl (c1, 24, .inl (fun _ => 0))), (a2, .inl (c2, 7, .inl (fun _ => 0))), (a3, .inl (c3, 7, .inl (fun _ => 0))), (a4, .inl (c4, 128, .inl (fun _ => 0)))] H := hP
  have hD : va_D A [(h, .inr (0, [.int (nI 0), .int (nI 0), .ref a0, .ref a1, .ref a2, .ref a3, .ref a4, .null, .null, .null, .null])), (a0, .inl (c0, 24, .inl (fun _ => 0))), (a1, .inl (c1, 24, .inl (fun _ => 0))), (a2, .inl (c2, 7, .inl (fun _ => 0))), (a3, .inl (c3, 7, .inl (fun _ => 0))), (a4, .inl (c4, 128, .inl (fun _ => 0)))] := hD
  refine lv_aload_n hx hb dX1_init_45 rfl (lv_at hl 0 rfl) ?_
  refine lv_sipush (v := nI 128) hx hb dX1_init_46 (by decide) ?_
  refine va_newa (atype := .short) (ty := .short) (N' := 128) (a0 := (128, .inl (fun _ => 0))) hx hb (hts _ q65) rfl hK hP hD hS hA (fun _ => rfl) (by decide) (by decide) (by decide) (Nat.le_of_ble_eq_true rfl) (Nat.le_of_ble_eq_true rfl) dX1_init_49 (fun a5 c5 H hK hP hD hS => ?_)
  have hK : va_K D vwCl [(c0, .byte), (c1, .byte), (c2, .int), (c3, .int), (c4, .short), (c5, .short)] s := hK
  have hP : va_P D vwCl [(h, .inr (0, [.int (nI 0), .int (nI 0), .ref a0, .ref a1, .ref a2, .ref a3, .ref a4, .null, .null, .null, .null])), (a0, .inl (c0, 24, .inl (fun _ => 0))), (a1, .inl (c1, 24, .inl (fun _ => 0))), (a2, .inl (c2, 7, .inl (fun _ => 0))), (a3, .inl (c3, 7, .inl (fun _ => 0))), (a4, .inl (c4, 128, .inl (fun _ => 0))), (a5, .inl (c5, 128, .inl (fun _ => 0)))] H := hP
  have hD : va_D A [(h, .inr (0, [.int (nI 0), .int (nI 0), .ref a0, .ref a1, .ref a2, .ref a3, .ref a4, .null, .null, .null, .null])), (a0, .inl (c0, 24, .inl (fun _ => 0))), (a1, .inl (c1, 24, .inl (fun _ => 0))), (a2, .inl (c2, 7, .inl (fun _ => 0))), (a3, .inl (c3, 7, .inl (fun _ => 0))), (a4, .inl (c4, 128, .inl (fun _ => 0))), (a5, .inl (c5, 128, .inl (fun _ => 0)))] := hD
  refine va_putF (ci := 0) (C := RX1) (T := TX1) (N := 11) (v := .ref a5) (ty := .array .short) hx hb hts in_X1 tyX1 tyX1_ok nmX1 hown hK hP hD hS 0 rfl rfl 7 (by decide) (hts _ q36) (fun _ h9 => h9) rfl hin rfl (by decide +kernel) rfl rfl (by simp) dX1_init_51 (fun H locs hP hD hS => ?_)
  have hP : va_P D vwCl [(h, .inr (0, [.int (nI 0), .int (nI 0), .ref a0, .ref a1, .ref a2, .ref a3, .ref a4, .ref a5, .null, .null, .null])), (a0, .inl (c0, 24, .inl (fun _ => 0))), (a1, .inl (c1, 24, .inl (fun _ => 0))), (a2, .inl (c2, 7, .inl (fun _ => 0))), (a3, .inl (c3, 7, .inl (fun _ => 0))), (a4, .inl (c4, 128, .inl (fun _ => 0))), (a5, .inl (c5, 128, .inl (fun _ => 0)))] H := hP
  have hD : va_D A [(h, .inr (0, [.int (nI 0), .int (nI 0), .ref a0, .ref a1, .ref a2, .ref a3, .ref a4, .ref a5, .null, .null, .null])), (a0, .inl (c0, 24, .inl (fun _ => 0))), (a1, .inl (c1, 24, .inl (fun _ => 0))), (a2, .inl (c2, 7, .inl (fun _ => 0))), (a3, .inl (c3, 7, .inl (fun _ => 0))), (a4, .inl (c4, 128, .inl (fun _ => 0))), (a5, .inl (c5, 128, .inl (fun _ => 0)))] := hD
  refine lv_aload_n hx hb dX1_init_54 rfl (lv_at hl 0 rfl) ?_
  refine lv_sipush (v := nI 128) hx hb dX1_init_55 (by decide) ?_
  refine va_newa (atype := .int) (ty := .int) (N' := 128) (a0 := (128, .inl (fun _ => 0))) hx hb (hts _ q64) rfl hK hP hD hS hA (fun _ => rfl) (by decide) (by decide) (by decide) (Nat.le_of_ble_eq_true rfl) (Nat.le_of_ble_eq_true rfl) dX1_init_58 (fun a6 c6 H hK hP hD hS => ?_)
  have hK : va_K D vwCl [(c0, .byte), (c1, .byte), (c2, .int), (c3, .int), (c4, .short), (c5, .short), (c6, .int)] s := hK
  have hP : va_P D vwCl [(h, .inr (0, [.int (nI 0), .int (nI 0), .ref a0, .ref a1, .ref a2, .ref a3, .ref a4, .ref a5, .null, .null, .null])), (a0, .inl (c0, 24, .inl (fun _ => 0))), (a1, .inl (c1, 24, .inl (fun _ => 0))), (a2, .inl (c2, 7, .inl (fun _ => 0))), (a3, .inl (c3, 7, .inl (fun _ => 0))), (a4, .inl (c4, 128, .inl (fun _ => 0))), (a5, .inl (c5, 128, .inl (fun _ => 0))), (a6, .inl (c6, 128, .inl (fun _ => 0)))] H := hP
  have hD : va_D A [(h, .inr (0, [.int (nI 0), .int (nI 0), .ref a0, .ref a1, .ref a2, .ref a3, .ref a4, .ref a5, .null, .null, .null])), (a0, .inl (c0, 24, .inl (fun _ => 0))), (a1, .inl (c1, 24, .inl (fun _ => 0))), (a2, .inl (c2, 7, .inl (fun _ => 0))), (a3, .inl (c3, 7, .inl (fun _ => 0))), (a4, .inl (c4, 128, .inl (fun _ => 0))), (a5, .inl (c5, 128, .inl (fun _ => 0))), (a6, .inl (c6, 128, .inl (fun _ => 0)))] := hD
  refine va_putF (ci := 0) (C := RX1) (T := TX1) (N := 11) (v := .ref a6) (ty := .array .int) hx hb hts in_X1 tyX1 tyX1_ok nmX1 hown hK hP hD hS 0 rfl rfl 8 (by decide) (hts _ q37) (fun _ h9 => h9) rfl hin rfl (by decide +kernel) rfl rfl (by simp) dX1_init_60 (fun H locs hP hD hS => ?_)
  have hP : va_P D vwCl [(h, .inr (0, [.int (nI 0), .int (nI 0), .ref a0, .ref a1, .ref a2, .ref a3, .ref a4, .ref a5, .ref a6, .null, .null])), (a0, .inl (c0, 24, .inl (fun _ => 0))), (a1, .inl (c1, 24, .inl (fun _ => 0))), (a2, .inl (c2, 7, .inl (fun _ => 0))), (a3, .inl (c3, 7, .inl (fun _ => 0))), (a4, .inl (c4, 128, .inl (fun _ => 0))), (a5, .inl (c5, 128, .inl (fun _ => 0))), (a6, .inl (c6, 128, .inl (fun _ => 0)))] H := hP
  have hD : va_D A [(h, .inr (0, [.int (nI 0), .int (nI 0), .ref a0, .ref a1, .ref a2, .ref a3, .ref a4, .ref a5, .ref a6, .null, .null])), (a0, .inl (c0, 24, .inl (fun _ => 0))), (a1, .inl (c1, 24, .inl (fun _ => 0))), (a2, .inl (c2, 7, .inl (fun _ => 0))), (a3, .inl (c3, 7, .inl (fun _ => 0))), (a4, .inl (c4, 128, .inl (fun _ => 0))), (a5, .inl (c5, 128, .inl (fun _ => 0))), (a6, .inl (c6, 128, .inl (fun _ => 0)))] := hD
  refine lv_aload_n hx hb dX1_init_63 rfl (lv_at hl 0 rfl) ?_
  refine lv_bipush (v := nI 7) hx hb dX1_init_64 (by decide) ?_
  refine va_newa (atype := .byte) (ty := .byte) (N' := 7) (a0 := (7, .inl (fun _ => 0))) hx hb (hts _ q63) rfl hK hP hD hS hA (fun _ => rfl) (by decide) (by decide) (by decide) (Nat.le_of_ble_eq_true rfl) (Nat.le_of_ble_eq_true rfl) dX1_init_66 (fun a7 c7 H hK hP hD hS => ?_)
  have hK : va_K D vwCl [(c0, .byte), (c1, .byte), (c2, .int), (c3, .int), (c4, .short), (c5, .short), (c6, .int), (c7, .byte)] s := hK
  have hP : va_P D vwCl [(h, .inr (0, [.int (nI 0), .int (nI 0), .ref a0, .ref a1, .ref a2, .ref a3, .ref a4, .ref a5, .ref a6, .null, .null])), (a0, .inl (c0, 24, .inl (fun _ => 0))), (a1, .inl (c1, 24, .inl (fun _ => 0))), (a2, .inl (c2, 7, .inl (fun _ => 0))), (a3, .inl (c3, 7, .inl (fun _ => 0))), (a4, .inl (c4, 128, .inl (fun _ => 0))), (a5, .inl (c5, 128, .inl (fun _ => 0))), (a6, .inl (c6, 128, .inl (fun _ => 0))), (a7, .inl (c7, 7, .inl (fun _ => 0)))] H := hP
  have hD : va_D A [(h, .inr (0, [.int (nI 0), .int (nI 0), .ref a0, .ref a1, .ref a2, .ref a3, .ref a4, .ref a5, .ref a6, .null, .null])), (a0, .inl (c0, 24, .inl (fun _ => 0))), (a1, .inl (c1, 24, .inl (fun _ => 0))), (a2, .inl (c2, 7, .inl (fun _ => 0))), (a3, .inl (c3, 7, .inl (fun _ => 0))), (a4, .inl (c4, 128, .inl (fun _ => 0))), (a5, .inl (c5, 128, .inl (fun _ => 0))), (a6, .inl (c6, 128, .inl (fun _ => 0))), (a7, .inl (c7, 7, .inl (fun _ => 0)))] := hD
  refine va_putF (ci := 0) (C := RX1) (T := TX1) (N := 11) (v := .ref a7) (ty := .array .byte) hx hb hts in_X1 tyX1 tyX1_ok nmX1 hown hK hP hD hS 0 rfl rfl 9 (by decide) (hts _ q38) (fun _ h9 => h9) rfl hin rfl (by decide +kernel) rfl rfl (by simp) dX1_init_68 (fun H locs hP hD hS => ?_)
  have hP : va_P D vwCl [(h, .inr (0, [.int (nI 0), .int (nI 0), .ref a0, .ref a1, .ref a2, .ref a3, .ref a4, .ref a5, .ref a6, .ref a7, .null])), (a0, .inl (c0, 24, .inl (fun _ => 0))), (a1, .inl (c1, 24, .inl (fun _ => 0))), (a2, .inl (c2, 7, .inl (fun _ => 0))), (a3, .inl (c3, 7, .inl (fun _ => 0))), (a4, .inl (c4, 128, .inl (fun _ => 0))), (a5, .inl (c5, 128, .inl (fun _ => 0))), (a6, .inl (c6, 128, .inl (fun _ => 0))), (a7, .inl (c7, 7, .inl (fun _ => 0)))] H := hP
  have hD : va_D A [(h, .inr (0, [.int (nI 0), .int (nI 0), .ref a0, .ref a1, .ref a2, .ref a3, .ref a4, .ref a5, .ref a6, .ref a7, .null])), (a0, .inl (c0, 24, .inl (fun _ => 0))), (a1, .inl (c1, 24, .inl (fun _ => 0))), (a2, .inl (c2, 7, .inl (fun _ => 0))), (a3, .inl (c3, 7, .inl (fun _ => 0))), (a4, .inl (c4, 128, .inl (fun _ => 0))), (a5, .inl (c5, 128, .inl (fun _ => 0))), (a6, .inl (c6, 128, .inl (fun _ => 0))), (a7, .inl (c7, 7, .inl (fun _ => 0)))] := hD
  refine lv_aload_n hx hb dX1_init_71 rfl (lv_at hl 0 rfl) ?_
  refine lv_bipush (v := nI 8) hx hb dX1_init_72 (by decide) ?_
  refine va_newa (atype := .int) (ty := .int) (N' := 8) (a0 := (8, .inl (fun _ => 0))) hx hb (hts _ q64) rfl hK hP hD hS hA (fun _ => rfl) (by decide) (by decide) (by decide) (Nat.le_of_ble_eq_true rfl) (Nat.le_of_ble_eq_true rfl) dX1_init_74 (fun a8 c8 H hK hP hD hS => ?_)
  have hK : va_K D vwCl [(c0, .byte), (c1, .byte), (c2, .int), (c3, .int), (c4, .short), (c5, .short), (c6, .int), (c7, .byte), (c8, .int)] s := hK
  have hP : va_P D vwCl [(h, .inr (0, [.int (nI 0), .int (nI 0), .ref a0, .ref a1, .ref a2, .ref a3, .ref a4, .ref a5, .ref a6, .ref a7, .null])), (a0, .inl (c0, 24, .inl (fun _ => 0))), (a1, .inl (c1, 24, .inl (fun _ => 0))), (a2, .inl (c2, 7, .inl (fun _ => 0))), (a3, .inl (c3, 7, .inl (fun _ => 0))), (a4, .inl (c4, 128, .inl (fun _ => 0))), (a5, .inl (c5, 128, .inl (fun _ => 0))), (a6, .inl (c6, 128, .inl (fun _ => 0))), (a7, .inl (c7, 7, .inl (fun _ => 0))), (a8, .inl (c8, 8, .inl (fun _ => 0)))] H := hP
  have hD : va_D A [(h, .inr (0, [.int (nI 0), .int (nI 0), .ref a0, .ref a1, .ref a2, .ref a3, .ref a4, .ref a5, .ref a6, .ref a7, .null])), (a0, .inl (c0, 24, .inl (fun _ => 0))), (a1, .inl (c1, 24, .inl (fun _ => 0))), (a2, .inl (c2, 7, .inl (fun _ => 0))), (a3, .inl (c3, 7, .inl (fun _ => 0))), (a4, .inl (c4, 128, .inl (fun _ => 0))), (a5, .inl (c5, 128, .inl (fun _ => 0))), (a6, .inl (c6, 128, .inl (fun _ => 0))), (a7, .inl (c7, 7, .inl (fun _ => 0))), (a8, .inl (c8, 8, .inl (fun _ => 0)))] := hD
  refine va_putF (ci := 0) (C := RX1) (T := TX1) (N := 11) (v := .ref a8) (ty := .array .int) hx hb hts in_X1 tyX1 tyX1_ok nmX1 hown hK hP hD hS 0 rfl rfl 10 (by decide) (hts _ q39) (fun _ h9 => h9) rfl hin rfl (by decide +kernel) rfl rfl (by simp) dX1_init_76 (fun H locs hP hD hS => ?_)
  have hP : va_P D vwCl [(h, .inr (0, [.int (nI 0), .int (nI 0), .ref a0, .ref a1, .ref a2, .ref a3, .ref a4, .ref a5, .ref a6, .ref a7, .ref a8])), (a0, .inl (c0, 24, .inl (fun _ => 0))), (a1, .inl (c1, 24, .inl (fun _ => 0))), (a2, .inl (c2, 7, .inl (fun _ => 0))), (a3, .inl (c3, 7, .inl (fun _ => 0))), (a4, .inl (c4, 128, .inl (fun _ => 0))), (a5, .inl (c5, 128, .inl (fun _ => 0))), (a6, .inl (c6, 128, .inl (fun _ => 0))), (a7, .inl (c7, 7, .inl (fun _ => 0))), (a8, .inl (c8, 8, .inl (fun _ => 0)))] H := hP
  have hD : va_D A [(h, .inr (0, [.int (nI 0), .int (nI 0), .ref a0, .ref a1, .ref a2, .ref a3, .ref a4, .ref a5, .ref a6, .ref a7, .ref a8])), (a0, .inl (c0, 24, .inl (fun _ => 0))), (a1, .inl (c1, 24, .inl (fun _ => 0))), (a2, .inl (c2, 7, .inl (fun _ => 0))), (a3, .inl (c3, 7, .inl (fun _ => 0))), (a4, .inl (c4, 128, .inl (fun _ => 0))), (a5, .inl (c5, 128, .inl (fun _ => 0))), (a6, .inl (c6, 128, .inl (fun _ => 0))), (a7, .inl (c7, 7, .inl (fun _ => 0))), (a8, .inl (c8, 8, .inl (fun _ => 0)))] := hD
  refine W.widen (k := 9) (n := 461) (Nat.le_of_ble_eq_true rfl) (Nat.le_of_ble_eq_true rfl) ?_
  refine lv_aload_n hx hb dX1_init_79 rfl (lv_at hl 0 rfl) ?_
  have key : ∀ z : Int32, z = nI (nw v) → W p l e (headSpec (ws_ yX1_init cX1_init 3 none) { frames := 1, cells := 9, slots := 461, locals := 12 }).room s m [Value.ref h, Value.int v].toArray below meth c H locs 9 461 (MQ below (va_Qv (fun u : iU => xF u.2.2 (nw v) 0 z00 z00 g00) (fun u t => va_P D vwCl (ob_W K1 u.1 h u.2.1 (nI (nw v), nI 0, u.2.2)) t.heap ∧ va_K D vwCl (ob_ty u.1 0 shX1) t ∧ va_D A (ob_W K1 u.1 h u.2.1 (nI (nw v), nI 0, u.2.2))) A) [Value.ref h, Value.int v].toArray s 9 461 A) (F0 m 101 ls [.int z, .ref h]) := by
    intro z hz
    subst hz
    refine va_putF (ci := 0) (C := RX1) (T := TX1) (N := 11) (v := .int (nI (nw v))) (ty := .int) hx hb hts in_X1 tyX1 tyX1_ok nmX1 hown hK hP hD hS 0 rfl rfl 0 (by decide) (hts _ q29) (fun _ h9 => h9) rfl hin rfl (by decide +kernel) rfl rfl (by simp) dX1_init_101 (fun H locs hP hD hS => ?_)
    have hP : va_P D vwCl (ob_W K1 (pick9 c0 c1 c2 c3 c4 c5 c6 c7 c8) h (pick9 a0 a1 a2 a3 a4 a5 a6 a7 a8) (nI (nw v), nI 0, f00)) H := hP
    have hD : va_D A (ob_W K1 (pick9 c0 c1 c2 c3 c4 c5 c6 c7 c8) h (pick9 a0 a1 a2 a3 a4 a5 a6 a7 a8) (nI (nw v), nI 0, f00)) := hD
    have hK : va_K D vwCl (ob_ty (pick9 c0 c1 c2 c3 c4 c5 c6 c7 c8) 0 shX1) s := hK
    refine x_init_tail (E := (p, l, e, _, s, m, _, below, meth, c, 9, 461, _)) (X := (D, A, (pick9 c0 c1 c2 c3 c4 c5 c6 c7 c8), h, (pick9 a0 a1 a2 a3 a4 a5 a6 a7 a8), s.heap)) (N := nw v) (v := v) ⟨⟨hx, hb, hml⟩, C1, rfl, hown, hts, hK, hA, rfl, rfl, Nat.le_of_ble_eq_true rfl, Nat.le_of_ble_eq_true rfl⟩ (nw_in v).2 ?_ H locs ls ⟨hP, hD, hS⟩ hl
    intro F' lv hp H locs ls hI hl
    exact W.vret hx hb hr (fun t ht hW => ⟨⟨((pick9 c0 c1 c2 c3 c4 c5 c6 c7 c8), (pick9 a0 a1 a2 a3 a4 a5 a6 a7 a8), F'), rfl, hp, by rw [ht]; exact hI.1, va_K.moved hW.alike hK, hI.2.1⟩, hI.2.2.F ht⟩) hI.2.2.2.2 dX1_init_141 hlocks
  refine lv_iload_n hx hb dX1_init_80 rfl (lv_at hl 1 rfl) ?_
  refine lv_iconst (v := nI 2) hx hb dX1_init_81 (by decide) ?_
  refine lv_icmp_ge (tgt := 89) hx hb dX1_init_82 (by decide) (fun c1 => ?_) (fun c1 => ?_)
  · refine lv_iload_n hx hb dX1_init_89 rfl (lv_at hl 1 rfl) ?_
    refine lv_bipush (v := nI 7) hx hb dX1_init_90 (by decide) ?_
    refine lv_icmp_le (tgt := 100) hx hb dX1_init_92 (by decide) (fun c2 => ?_) (fun c2 => ?_)
    · refine lv_iload_n hx hb dX1_init_100 rfl (lv_at hl 1 rfl) ?_
      exact key v (nw_m c1 c2).2.2
    · refine lv_bipush (v := nI 7) hx hb dX1_init_95 (by decide) ?_
      refine lv_goto (tgt := 101) hx hb dX1_init_97 (by decide) ?_
      exact key (nI 7) (by rw [nw_7 c1 c2])
  · refine lv_iconst (v := nI 2) hx hb dX1_init_85 (by decide) ?_
    refine lv_goto (tgt := 101) hx hb dX1_init_86 (by decide) ?_
    exact key (nI 2) (by rw [nw_0 c1])
set_option maxHeartbeats 8000000 in
theorem m_init (l : Launch) (D : va_G) (h sz : Nat) (v : Int32) : Met l yX2_init (ws_ yX2_init cX2_init 2 none) ({ frames := 1, cells := 7, slots := 83, locals := 12 }) (va_Pc [.ref h, .int v] (fun U => U.heap.size = sz ∧ va_P D vwCl [(h, .inr (1, fX2))] U.heap ∧ va_K D vwCl [] U ∧ va_D (fun _ => True) [(h, .inr (1, fX2))])) (va_Qv (fun u : iU => mF u.2.2 (nw v) 0 z00 z00 g00) (fun u t => va_P D vwCl (ob_W K2 u.1 h u.2.1 (nI (nw v), nI 0, u.2.2)) t.heap ∧ va_K D vwCl (ob_ty u.1 0 shX2) t ∧ va_D (va_A [(h, .inr (1, fX2))] sz) (ob_W K2 u.1 h u.2.1 (nI (nw v), nI 0, u.2.2))) (va_A [(h, .inr (1, fX2))] sz)) 7 83 (va_A [(h, .inr (1, fX2))] sz) := by
  refine Met.ofW (cc := cX2_init) (maxL := 2) (ret := none) (by decide) rfl ?_
  intro p e s m args below meth c s₁ B hml hv
  obtain ⟨rfl, hsz, hP, hK, hD0⟩ := hv
  have hx := B.exec
  have hb := B.bytes
  have hr := B.returns
  have hts := atoms_spec (ws := ws_ yX2_init cX2_init 2 none) B.pre
  have hts : ∀ w ∈ lw_all, w.before _ s = true := fun w h => hts w (List.mem_cons_of_mem _ h)
  have hown : s.vm.findClass RX2 = some m.cls := findClass_of_methodNamed B.named
  have hlocks := B.notSynchronized
  have hin : meth.name = "<init>" := (name_of_methodNamed B.named B.method).1
  subst hsz
  have hD := hD0.self (sz := s.heap.size)
  have hA : ∀ q : Nat, s.heap.size ≤ q → va_A [(h, .inr (1, fX2))] s.heap.size q := fun q h => Or.inr h
  generalize va_A [(h, .inr (1, fX2))] s.heap.size = A at hD hA ⊢
  have hS : va_S A s.heap s.heap [] := va_S.rf
  have hl := lv_entry ([.ref h, .int v]) (n := 2) (Nat.le_of_ble_eq_true rfl)
  rw [lg_entry_eq]
  generalize (lg_sl ([.ref h, .int v]) ++ List.replicate (2 - (lg_sl ([.ref h, .int v])).length) Slot.unset).toArray = ls at hl ⊢
  have hl : lv_has ls 2 [(0, .ref h), (1, .int v)] := hl
  refine lv_aload_n hx hb dX2_init_0 rfl (lv_at hl 0 rfl) ?_
  refine W.objInit hx hb hown (hts _ q170) (hts _ q27) (hts _ q28) rfl (by rw [hml]; exact hl.1) rfl dX2_init_1 (Nat.le_of_ble_eq_true rfl) (Nat.le_of_ble_eq_true rfl) ?_
  refine W.eq (g2 := F0 m 4 ls []) rfl ?_
  refine lv_aload_n hx hb dX2_init_4 rfl (lv_at hl 0 rfl) ?_
  refine lv_bipush (v := nI 24) hx hb dX2_init_5 (by decide) ?_
  refine va_newa (atype := .int) (ty := .int) (N' := 24) (a0 := (24, .inl (fun _ => 0))) hx hb (hts _ q64) rfl hK hP hD hS hA (fun _ => rfl) (by decide) (by decide) (by decide) (Nat.le_of_ble_eq_true rfl) (Nat.le_of_ble_eq_true rfl) dX2_init_7 (fun a0 c0 H hK hP hD hS => ?_)
  have hK : va_K D vwCl [(c0, .int)] s := hK
  have hP : va_P D vwCl [(h, .inr (1, [.int (nI 0), .int (nI 0), .null, .null, .null, .null, .null, .null, .null])), (a0, .inl (c0, 24, .inl (fun _ => 0)))] H := hP
  have hD : va_D A [(h, .inr (1, [.int (nI 0), .int (nI 0), .null, .null, .null, .null, .null, .null, .null])), (a0, .inl (c0, 24, .inl (fun _ => 0)))] := hD
  refine va_put (ci := 1) (C := RX2) (T := TX2) (N := 9) (v := .ref a0) (ty := .array .int) hx hb hts in_X2 tyX2 tyX2_ok nmX2 hown hK hP hD hS 0 rfl rfl 2 (by decide) (hts _ q173) (fun _ h9 => h9) rfl (by decide +kernel) rfl rfl (by simp) dX2_init_9 (fun H locs hP hD hS => ?_)
  have hP : va_P D vwCl [(h, .inr (1, [.int (nI 0), .int (nI 0), .ref a0, .null, .null, .null, .null, .null, .null])), (a0, .inl (c0, 24, .inl (fun _ => 0)))] H := hP
  have hD : va_D A [(h, .inr (1, [.int (nI 0), .int (nI 0), .ref a0, .null, .null, .null, .null, .null, .null])), (a0, .inl (c0, 24, .inl (fun _ => 0)))] := hD
  refine lv_aload_n hx hb dX2_init_12 rfl (lv_at hl 0 rfl) ?_
  refine lv_bipush (v := nI 24) hx hb dX2_init_13 (by decide) ?_
  refine va_newa (atype := .int) (ty := .int) (N' := 24) (a0 := (24, .inl (fun _ => 0))) hx hb (hts _ q64) rfl hK hP hD hS hA (fun _ => rfl) (by decide) (by decide) (by decide) (Nat.le_of_ble_eq_true rfl) (Nat.le_of_ble_eq_true rfl) dX2_init_15 (fun a1 c1 H hK hP hD hS => ?_)
  have hK : va_K D vwCl [(c0, .int), (c1, .int)] s := hK
  have hP : va_P D vwCl [(h, .inr (1, [.int (nI 0), .int (nI 0), .ref a0, .null, .null, .null, .null, .null, .null])), (a0, .inl (c0, 24, .inl (fun _ => 0))), (a1, .inl (c1, 24, .inl (fun _ => 0)))] H := hP
  have hD : va_D A [(h, .inr (1, [.int (nI 0), .int (nI 0), .ref a0, .null, .null, .null, .null, .null, .null])), (a0, .inl (c0, 24, .inl (fun _ => 0))), (a1, .inl (c1, 24, .inl (fun _ => 0)))] := hD
  refine va_put (ci := 1) (C := RX2) (T := TX2) (N := 9) (v := .ref a1) (ty := .array .int) hx hb hts in_X2 tyX2 tyX2_ok nmX2 hown hK hP hD hS 0 rfl rfl 3 (by decide) (hts _ q174) (fun _ h9 => h9) rfl (by decide +kernel) rfl rfl (by simp) dX2_init_17 (fun H locs hP hD hS => ?_)
  have hP : va_P D vwCl [(h, .inr (1, [.int (nI 0), .int (nI 0), .ref a0, .ref a1, .null, .null, .null, .null, .null])), (a0, .inl (c0, 24, .inl (fun _ => 0))), (a1, .inl (c1, 24, .inl (fun _ => 0)))] H := hP
  have hD : va_D A [(h, .inr (1, [.int (nI 0), .int (nI 0), .ref a0, .ref a1, .null, .null, .null, .null, .null])), (a0, .inl (c0, 24, .inl (fun _ => 0))), (a1, .inl (c1, 24, .inl (fun _ => 0)))] := hD
  refine lv_aload_n hx hb dX2_init_20 rfl (lv_at hl 0 rfl) ?_
  refine lv_bipush (v := nI 7) hx hb dX2_init_21 (by decide) ?_
  refine va_newa (atype := .int) (ty := .int) (N' := 7) (a0 := (7, .inl (fun _ => 0))) hx hb (hts _ q64) rfl hK hP hD hS hA (fun _ => rfl) (by decide) (by decide) (by decide) (Nat.le_of_ble_eq_true rfl) (Nat.le_of_ble_eq_true rfl) dX2_init_23 (fun a2 c2 H hK hP hD hS => ?_)
  have hK : va_K D vwCl [(c0, .int), (c1, .int), (c2, .int)] s := hK
  have hP : va_P D vwCl [(h, .inr (1, [.int (nI 0), .int (nI 0), .ref a0, .ref a1, .null, .null, .null, .null, .null])), (a0, .inl (c0, 24, .inl (fun _ => 0))), (a1, .inl (c1, 24, .inl (fun _ => 0))), (a2, .inl (c2, 7, .inl (fun _ => 0)))] H := hP
  have hD : va_D A [(h, .inr (1, [.int (nI 0), .int (nI 0), .ref a0, .ref a1, .null, .null, .null, .null, .null])), (a0, .inl (c0, 24, .inl (fun _ => 0))), (a1, .inl (c1, 24, .inl (fun _ => 0))), (a2, .inl (c2, 7, .inl (fun _ => 0)))] := hD
  refine va_put (ci := 1) (C := RX2) (T := TX2) (N := 9) (v := .ref a2) (ty := .array .int) hx hb hts in_X2 tyX2 tyX2_ok nmX2 hown hK hP hD hS 0 rfl rfl 4 (by decide) (hts _ q175) (fun _ h9 => h9) rfl (by decide +kernel) rfl rfl (by simp) dX2_init_25 (fun H locs hP hD hS => ?_)
  have hP : va_P D vwCl [(h, .inr (1, [.int (nI 0), .int (nI 0), .ref a0, .ref a1, .ref a2, .null, .null, .null, .null])), (a0, .inl (c0, 24, .inl (fun _ => 0))), (a1, .inl (c1, 24, .inl (fun _ => 0))), (a2, .inl (c2, 7, .inl (fun _ => 0)))] H := hP
  have hD : va_D A [(h, .inr (1, [.int (nI 0), .int (nI 0), .ref a0, .ref a1, .ref a2, .null, .null, .null, .null])), (a0, .inl (c0, 24, .inl (fun _ => 0))), (a1, .inl (c1, 24, .inl (fun _ => 0))), (a2, .inl (c2, 7, .inl (fun _ => 0)))] := hD
  refine lv_aload_n hx hb dX2_init_28 rfl (lv_at hl 0 rfl) ?_
  refine lv_bipush (v := nI 7) hx hb dX2_init_29 (by decide) ?_
  refine va_newa (atype := .int) (ty := .int) (N' := 7) (a0 := (7, .inl (fun _ => 0))) hx hb (hts _ q64) rfl hK hP hD hS hA (fun _ => rfl) (by decide) (by decide) (by decide) (Nat.le_of_ble_eq_true rfl) (Nat.le_of_ble_eq_true rfl) dX2_init_31 (fun a3 c3 H hK hP hD hS => ?_)
  have hK : va_K D vwCl [(c0, .int), (c1, .int), (c2, .int), (c3, .int)] s := hK
  have hP : va_P D vwCl [(h, .inr (1, [.int (nI 0), .int (nI 0), .ref a0, .ref a1, .ref a2, .null, .null, .null, .null])), (a0, .inl (c0, 24, .inl (fun _ => 0))), (a1, .inl (c1, 24, .inl (fun _ => 0))), (a2, .inl (c2, 7, .inl (fun _ => 0))), (a3, .inl (c3, 7, .inl (fun _ => 0)))] H := hP
  have hD : va_D A [(h, .inr (1, [.int (nI 0), .int (nI 0), .ref a0, .ref a1, .ref a2, .null, .null, .null, .null])), (a0, .inl (c0, 24, .inl (fun _ => 0))), (a1, .inl (c1, 24, .inl (fun _ => 0))), (a2, .inl (c2, 7, .inl (fun _ => 0))), (a3, .inl (c3, 7, .inl (fun _ => 0)))] := hD
  refine va_put (ci := 1) (C := RX2) (T := TX2) (N := 9) (v := .ref a3) (ty := .array .int) hx hb hts in_X2 tyX2 tyX2_ok nmX2 hown hK hP hD hS 0 rfl rfl 5 (by decide) (hts _ q176) (fun _ h9 => h9) rfl (by decide +kernel) rfl rfl (by simp) dX2_init_33 (fun H locs hP hD hS => ?_)
  have hP : va_P D vwCl [(h, .inr (1, [.int (nI 0), .int (nI 0), .ref a0, .ref a1, .ref a2, .ref a3, .null, .null, .null])), (a0, .inl (c0, 24, .inl (fun _ => 0))), (a1, .inl (c1, 24, .inl (fun _ => 0))), (a2, .inl (c2, 7, .inl (fun _ => 0))), (a3, .inl (c3, 7, .inl (fun _ => 0)))] H := hP
  have hD : va_D A [(h, .inr (1, [.int (nI 0), .int (nI 0), .ref a0, .ref a1, .ref a2, .ref a3, .null, .null, .null])), (a0, .inl (c0, 24, .inl (fun _ => 0))), (a1, .inl (c1, 24, .inl (fun _ => 0))), (a2, .inl (c2, 7, .inl (fun _ => 0))), (a3, .inl (c3, 7, .inl (fun _ => 0)))] := hD
  refine lv_aload_n hx hb dX2_init_36 rfl (lv_at hl 0 rfl) ?_
  refine lv_bipush (v := nI 7) hx hb dX2_init_37 (by decide) ?_
  refine va_newa (atype := .int) (ty := .int) (N' := 7) (a0 := (7, .inl (fun _ => 0))) hx hb (hts _ q64) rfl hK hP hD hS hA (fun _ => rfl) (by decide) (by decide) (by decide) (Nat.le_of_ble_eq_true rfl) (Nat.le_of_ble_eq_true rfl) dX2_init_39 (fun a4 c4 H hK hP hD hS => ?_)
  have hK : va_K D vwCl [(c0, .int), (c1, .int), (c2, .int), (c3, .int), (c4, .int)] s := hK
  have hP : va_P D vwCl [(h, .inr (1, [.int (nI 0), .int (nI 0), .ref a0, .ref a1, .ref a2, .ref a3, .null, .null, .null])), (a0, .inl (c0, 24, .inl (fun _ => 0))), (a1, .inl (c1, 24, .inl (fun _ => 0))), (a2, .inl (c2, 7, .inl (fun _ => 0))), (a3, .inl (c3, 7, .inl (fun _ => 0))), (a4, .inl (c4, 7, .inl (fun _ => 0)))] H := hP
  have hD : va_D A [(h, .inr (1, [.int (nI 0), .int (nI 0), .ref a0, .ref a1, .ref a2, .ref a3, .null, .null, .null])), (a0, .inl (c0, 24, .inl (fun _ => 0))), (a1, .inl (c1, 24, .inl (fun _ => 0))), (a2, .inl (c2, 7, .inl (fun _ => 0))), (a3, .inl (c3, 7, .inl (fun _ => 0))), (a4, .inl (c4, 7, .inl (fun _ => 0)))] := hD
  refine va_put (ci := 1) (C := RX2) (T := TX2) (N := 9) (v := .ref a4) (ty := .array .int) hx hb hts in_X2 tyX2 tyX2_ok nmX2 hown hK hP hD hS 0 rfl rfl 6 (by decide) (hts _ q177) (fun _ h9 => h9) rfl (by decide +kernel) rfl rfl (by simp) dX2_init_41 (fun H locs hP hD hS => ?_)
  have hP : va_P D vwCl [(h, .inr (1, [.int (nI 0), .int (nI 0), .ref a0, .ref a1, .ref a2, .ref a3, .ref a4, .null, .null])), (a0, .inl (c0, 24, .inl (fun _ => 0))), (a1, .inl (c1, 24, .inl (fun _ => 0))), (a2, .inl (c2, 7, .inl (fun _ => 0))), (a3, .inl (c3, 7, .inl (fun _ => 0))), (a4, .inl (c4, 7, .inl (fun _ => 0)))] H := hP
  have hD : va_D A [(h, .inr (1, [.int (nI 0), .int (nI 0), .ref a0, .ref a1, .ref a2, .ref a3, .ref a4, .null, .null])), (a0, .inl (c0, 24, .inl (fun _ => 0))), (a1, .inl (c1, 24, .inl (fun _ => 0))), (a2, .inl (c2, 7, .inl (fun _ => 0))), (a3, .inl (c3, 7, .inl (fun _ => 0))), (a4, .inl (c4, 7, .inl (fun _ => 0)))] := hD
  refine lv_aload_n hx hb dX2_init_44 rfl (lv_at hl 0 rfl) ?_
  refine lv_bipush (v := nI 7) hx hb dX2_init_45 (by decide) ?_
  refine va_newa (atype := .int) (ty := .int) (N' := 7) (a0 := (7, .inl (fun _ => 0))) hx hb (hts _ q64) rfl hK hP hD hS hA (fun _ => rfl) (by decide) (by decide) (by decide) (Nat.le_of_ble_eq_true rfl) (Nat.le_of_ble_eq_true rfl) dX2_init_47 (fun a5 c5 H hK hP hD hS => ?_)
  have hK : va_K D vwCl [(c0, .int), (c1, .int), (c2, .int), (c3, .int), (c4, .int), (c5, .int)] s := hK
  have hP : va_P D vwCl [(h, .inr (1, [.int (nI 0), .int (nI 0), .ref a0, .ref a1, .ref a2, .ref a3, .ref a4, .null, .null])), (a0, .inl (c0, 24, .inl (fun _ => 0))), (a1, .inl (c1, 24, .inl (fun _ => 0))), (a2, .inl (c2, 7, .inl (fun _ => 0))), (a3, .inl (c3, 7, .inl (fun _ => 0))), (a4, .inl (c4, 7, .inl (fun _ => 0))), (a5, .inl (c5, 7, .inl (fun _ => 0)))] H := hP
  have hD : va_D A [(h, .inr (1, [.int (nI 0), .int (nI 0), .ref a0, .ref a1, .ref a2, .ref a3, .ref a4, .null, .null])), (a0, .inl (c0, 24, .inl (fun _ => 0))), (a1, .inl (c1, 24, .inl (fun _ => 0))), (a2, .inl (c2, 7, .inl (fun _ => 0))), (a3, .inl (c3, 7, .inl (fun _ => 0))), (a4, .inl (c4, 7, .inl (fun _ => 0))), (a5, .inl (c5, 7, .inl (fun _ => 0)))] := hD
  refine va_put (ci := 1) (C := RX2) (T := TX2) (N := 9) (v := .ref a5) (ty := .array .int) hx hb hts in_X2 tyX2 tyX2_ok nmX2 hown hK hP hD hS 0 rfl rfl 7 (by decide) (hts _ q178) (fun _ h9 => h9) rfl (by decide +kernel) rfl rfl (by simp) dX2_init_49 (fun H locs hP hD hS => ?_)
  have hP : va_P D vwCl [(h, .inr (1, [.int (nI 0), .int (nI 0), .ref a0, .ref a1, .ref a2, .ref a3, .ref a4, .ref a5, .null])), (a0, .inl (c0, 24, .inl (fun _ => 0))), (a1, .inl (c1, 24, .inl (fun _ => 0))), (a2, .inl (c2, 7, .inl (fun _ => 0))), (a3, .inl (c3, 7, .inl (fun _ => 0))), (a4, .inl (c4, 7, .inl (fun _ => 0))), (a5, .inl (c5, 7, .inl (fun _ => 0)))] H := hP
  have hD : va_D A [(h, .inr (1, [.int (nI 0), .int (nI 0), .ref a0, .ref a1, .ref a2, .ref a3, .ref a4, .ref a5, .null])), (a0, .inl (c0, 24, .inl (fun _ => 0))), (a1, .inl (c1, 24, .inl (fun _ => 0))), (a2, .inl (c2, 7, .inl (fun _ => 0))), (a3, .inl (c3, 7, .inl (fun _ => 0))), (a4, .inl (c4, 7, .inl (fun _ => 0))), (a5, .inl (c5, 7, .inl (fun _ => 0)))] := hD
  refine lv_aload_n hx hb dX2_init_52 rfl (lv_at hl 0 rfl) ?_
  refine lv_bipush (v := nI 7) hx hb dX2_init_53 (by decide) ?_
  refine va_newa (atype := .int) (ty := .int) (N' := 7) (a0 := (7, .inl (fun _ => 0))) hx hb (hts _ q64) rfl hK hP hD hS hA (fun _ => rfl) (by decide) (by decide) (by decide) (Nat.le_of_ble_eq_true rfl) (Nat.le_of_ble_eq_true rfl) dX2_init_55 (fun a6 c6 H hK hP hD hS => ?_)
  have hK : va_K D vwCl [(c0, .int), (c1, .int), (c2, .int), (c3, .int), (c4, .int), (c5, .int), (c6, .int)] s := hK
  have hP : va_P D vwCl [(h, .inr (1, [.int (nI 0), .int (nI 0), .ref a0, .ref a1, .ref a2, .ref a3, .ref a4, .ref a5, .null])), (a0, .inl (c0, 24, .inl (fun _ => 0))), (a1, .inl (c1, 24, .inl (fun _ => 0))), (a2, .inl (c2, 7, .inl (fun _ => 0))), (a3, .inl (c3, 7, .inl (fun _ => 0))), (a4, .inl (c4, 7, .inl (fun _ => 0))), (a5, .inl (c5, 7, .inl (fun _ => 0))), (a6, .inl (c6, 7, .inl (fun _ => 0)))] H := hP
  have hD : va_D A [(h, .inr (1, [.int (nI 0), .int (nI 0), .ref a0, .ref a1, .ref a2, .ref a3, .ref a4, .ref a5, .null])), (a0, .inl (c0, 24, .inl (fun _ => 0))), (a1, .inl (c1, 24, .inl (fun _ => 0))), (a2, .inl (c2, 7, .inl (fun _ => 0))), (a3, .inl (c3, 7, .inl (fun _ => 0))), (a4, .inl (c4, 7, .inl (fun _ => 0))), (a5, .inl (c5, 7, .inl (fun _ => 0))), (a6, .inl (c6, 7, .inl (fun _ => 0)))] := hD
  refine va_put (ci := 1) (C := RX2) (T := TX2) (N := 9) (v := .ref a6) (ty := .array .int) hx hb hts in_X2 tyX2 tyX2_ok nmX2 hown hK hP hD hS 0 rfl rfl 8 (by decide) (hts _ q179) (fun _ h9 => h9) rfl (by decide +kernel) rfl rfl (by simp) dX2_init_57 (fun H locs hP hD hS => ?_)
  have hP : va_P D vwCl [(h, .inr (1, [.int (nI 0), .int (nI 0), .ref a0, .ref a1, .ref a2, .ref a3, .ref a4, .ref a5, .ref a6])), (a0, .inl (c0, 24, .inl (fun _ => 0))), (a1, .inl (c1, 24, .inl (fun _ => 0))), (a2, .inl (c2, 7, .inl (fun _ => 0))), (a3, .inl (c3, 7, .inl (fun _ => 0))), (a4, .inl (c4, 7, .inl (fun _ => 0))), (a5, .inl (c5, 7, .inl (fun _ => 0))), (a6, .inl (c6, 7, .inl (fun _ => 0)))] H := hP
  have hD : va_D A [(h, .inr (1, [.int (nI 0), .int (nI 0), .ref a0, .ref a1, .ref a2, .ref a3, .ref a4, .ref a5, .ref a6])), (a0, .inl (c0, 24, .inl (fun _ => 0))), (a1, .inl (c1, 24, .inl (fun _ => 0))), (a2, .inl (c2, 7, .inl (fun _ => 0))), (a3, .inl (c3, 7, .inl (fun _ => 0))), (a4, .inl (c4, 7, .inl (fun _ => 0))), (a5, .inl (c5, 7, .inl (fun _ => 0))), (a6, .inl (c6, 7, .inl (fun _ => 0)))] := hD
  refine W.widen (k := 7) (n := 83) (Nat.le_of_ble_eq_true rfl) (Nat.le_of_ble_eq_true rfl) ?_
  refine lv_aload_n hx hb dX2_init_60 rfl (lv_at hl 0 rfl) ?_
  have key : ∀ z : Int32, z = nI (nw v) → W p l e (headSpec (ws_ yX2_init cX2_init 2 none) { frames := 1, cells := 7, slots := 83, locals := 12 }).room s m [Value.ref h, Value.int v].toArray below meth c H locs 7 83 (MQ below (va_Qv (fun u : iU => mF u.2.2 (nw v) 0 z00 z00 g00) (fun u t => va_P D vwCl (ob_W K2 u.1 h u.2.1 (nI (nw v), nI 0, u.2.2)) t.heap ∧ va_K D vwCl (ob_ty u.1 0 shX2) t ∧ va_D A (ob_W K2 u.1 h u.2.1 (nI (nw v), nI 0, u.2.2))) A) [Value.ref h, Value.int v].toArray s 7 83 A) (F0 m 82 ls [.int z, .ref h]) := by
    intro z hz
    subst hz
    refine va_put (ci := 1) (C := RX2) (T := TX2) (N := 9) (v := .int (nI (nw v))) (ty := .int) hx hb hts in_X2 tyX2 tyX2_ok nmX2 hown hK hP hD hS 0 rfl rfl 0 (by decide) (hts _ q171) (fun _ h9 => h9) rfl (by decide +kernel) rfl rfl (by simp) dX2_init_82 (fun H locs hP hD hS => ?_)
    have hP : va_P D vwCl (ob_W K2 (pick7 c0 c1 c2 c3 c4 c5 c6) h (pick7 a0 a1 a2 a3 a4 a5 a6) (nI (nw v), nI 0, f00)) H := hP
    have hD : va_D A (ob_W K2 (pick7 c0 c1 c2 c3 c4 c5 c6) h (pick7 a0 a1 a2 a3 a4 a5 a6) (nI (nw v), nI 0, f00)) := hD
    have hK : va_K D vwCl (ob_ty (pick7 c0 c1 c2 c3 c4 c5 c6) 0 shX2) s := hK
    exact W.vret hx hb hr (fun t ht hW => ⟨⟨((pick7 c0 c1 c2 c3 c4 c5 c6), (pick7 a0 a1 a2 a3 a4 a5 a6), f00), rfl, mF_00 _, by rw [ht]; exact hP, va_K.moved hW.alike hK, hD⟩, hS.F ht⟩) hS.2.2 dX2_init_85 hlocks
  refine lv_iload_n hx hb dX2_init_61 rfl (lv_at hl 1 rfl) ?_
  refine lv_iconst (v := nI 2) hx hb dX2_init_62 (by decide) ?_
  refine lv_icmp_ge (tgt := 70) hx hb dX2_init_63 (by decide) (fun c1 => ?_) (fun c1 => ?_)
  · refine lv_iload_n hx hb dX2_init_70 rfl (lv_at hl 1 rfl) ?_
    refine lv_bipush (v := nI 7) hx hb dX2_init_71 (by decide) ?_
    refine lv_icmp_le (tgt := 81) hx hb dX2_init_73 (by decide) (fun c2 => ?_) (fun c2 => ?_)
    · refine lv_iload_n hx hb dX2_init_81 rfl (lv_at hl 1 rfl) ?_
      exact key v (nw_m c1 c2).2.2
    · refine lv_bipush (v := nI 7) hx hb dX2_init_76 (by decide) ?_
      refine lv_goto (tgt := 82) hx hb dX2_init_78 (by decide) ?_
      exact key (nI 7) (by rw [nw_7 c1 c2])
  · refine lv_iconst (v := nI 2) hx hb dX2_init_66 (by decide) ?_
    refine lv_goto (tgt := 82) hx hb dX2_init_67 (by decide) ?_
    exact key (nI 2) (by rw [nw_0 c1])
end
section
/-! the law: what it reads, its two objects, its calls -/
set_option maxRecDepth 100000
set_option maxHeartbeats 4000000 in
theorem c_cell (l : Launch) (b L : Nat) (xs : Nat → Int32) (hL : L ≤ 193) : Met l yX0_cell (ws_ yX0_cell cX0_cell 2 (some .int)) ({ frames := 0, cells := 0, slots := 0, locals := 0 }) (va_Pc [.ref b, .int (nI 0)] (fun U => va_X b L xs U U.heap)) (va_Qi (fun (r : Int32) (_ : Unit) => r = if 0 < L then xs 0 else nI 0) (fun _ _ => True) (fun _ => False)) 0 0 (fun _ => False) := by
  refine Met.ofW (cc := cX0_cell) (maxL := 2) (ret := some .int) (by decide) rfl ?_
  intro p e s m args below meth c s₁ B hml hv
  obtain ⟨rfl, hX⟩ := hv
  have hx := B.exec
  have hb := B.bytes
  have hr := B.returns
  have hlocks := B.notSynchronized
  have hS : va_S (fun _ => False) s.heap s.heap [] := va_S.rf
  have hbl : b < s.heap.size := by
    obtain ⟨scr, h1, -⟩ := hX
    exact (Array.getElem?_eq_some_iff.mp h1).1
  have hl := lv_entry ([.ref b, .int (nI 0)]) (n := 2) (Nat.le_of_ble_eq_true rfl)
  rw [lg_entry_eq]
  generalize (lg_sl ([.ref b, .int (nI 0)]) ++ List.replicate (2 - (lg_sl ([.ref b, .int (nI 0)])).length) Slot.unset).toArray = ls at hl ⊢
  have hl : lv_has ls 2 [(0, .ref b), (1, .int (nI 0))] := hl
  refine lv_iload_n hx hb dX0_cell_0 rfl (lv_at hl 1 rfl) ?_
  refine lv_aload_n hx hb dX0_cell_1 rfl (lv_at hl 0 rfl) ?_
  refine va_slen (A := fun _ => False) hx hb hX hbl (fun h => h) hS dX0_cell_2 ?_
  refine lv_icmp_ge (tgt := 12) hx hb dX0_cell_3 (by decide) (fun c1 => ?_) (fun c1 => ?_)
  · have c2 : nI L ≤ nI 0 := c1
    have h0 : L ≤ 0 := (nI_leI (by omega) (by decide)).mp c2
    refine lv_iconst (v := nI 0) hx hb dX0_cell_12 (by decide) ?_
    exact W.zret hx hb hr rfl (fun t ht hW => ⟨⟨nI 0, (), rfl, by rw [if_neg (by omega)], trivial⟩, hS.F ht⟩) hS.2.2 dX0_cell_13 hlocks
  · have h0 : 0 < L := by
      rcases Nat.eq_zero_or_pos L with q | q
      · exact absurd (show nI L ≤ nI 0 by rw [q]; decide) c1
      · exact q
    refine lv_aload_n hx hb dX0_cell_6 rfl (lv_at hl 0 rfl) ?_
    refine lv_iload_n hx hb dX0_cell_7 rfl (lv_at hl 1 rfl) ?_
    refine va_sld (A := fun _ => False) hx hb hX hbl (fun h => h) hS (vp_in_nI h0 (by omega)) dX0_cell_8 ?_
    rw [nI_clamp (by decide)]
    refine lv_goto (tgt := 13) hx hb dX0_cell_9 (by decide) ?_
    exact W.zret hx hb hr rfl (fun t ht hW => ⟨⟨xs 0, (), rfl, by rw [if_pos h0], trivial⟩, hS.F ht⟩) hS.2.2 dX0_cell_13 hlocks
/-- the two objects in the heap -/
abbrev lY : Type := va_G × (Nat → ClassId) × Nat × (Nat → Nat) × (Nat → ClassId) × Nat × (Nat → Nat) × Heap
def lw_I (Y : lY) (S1 S2 : ob_S) : Heap → List Loc → Prop :=
  match Y with
  | (D, cs1, h1, ad1, cs2, h2, ad2, H0) => fun H locs => va_P D vwCl (ob_W K1 cs1 h1 ad1 S1 ++ ob_W K2 cs2 h2 ad2 S2) H ∧ va_D (fun q : Nat => H0.size ≤ q) (ob_W K1 cs1 h1 ad1 S1 ++ ob_W K2 cs2 h2 ad2 S2) ∧ va_S (fun q : Nat => H0.size ≤ q) H0 H locs
def l_h1 (Y : lY) : Nat := Y.2.2.1
def l_h2 (Y : lY) : Nat := Y.2.2.2.2.2.1
def lw_G (Y : lY) (E : gE) (b L : Nat) (xs : Nat → Int32) : Prop :=
  gG E code 4 ∧
  match Y, E with
  | (D, cs1, _, _, cs2, _, _, H0), (_, _, _, R, s, m, args, _, _, _, mc, ms, _) => H0 = s.heap ∧ s.vm.findClass RX0 = some m.cls ∧ (∀ w ∈ lw_all, w.before args s = true) ∧ va_K D vwCl (ob_ty cs1 0 shX1 ++ ob_ty cs2 0 shX2) s ∧ R = room_1 ∧ mc = 600000 ∧ ms = 7290000 ∧ va_X b L xs s s.heap ∧ b < s.heap.size
section LG
variable {E : gE} {nL : Nat} {I : Heap → List Loc → Prop} {lv : List Value} {pc : Nat} {st : List Value} {cc : ByteArray}
theorem gm_tableIn (G : gG E cc nL) {dflt lo hi : Int} {offs : Array Int} {len : Nat} {x : Int32} {off : Int} (tgt : Nat) (d : decode cc pc = .ok (.tableswitch dflt lo hi offs, len)) (h1 : ¬ x.toInt < lo) (h2 : ¬ hi < x.toInt) (ho : offs[(x.toInt - lo).toNat]? = some off) (ht : (pc : Int) + off = (tgt : Int)) (k : gm E nL I lv tgt st) : gm E nL I lv pc (.int x :: st) := by
  obtain ⟨p, l, e, R, s, m, args, below, meth, c, mc, ms, Q⟩ := E
  obtain ⟨hx, hb, hml⟩ := G
  intro H locs ls hI hl
  exact lv_tableIn hx hb d h1 h2 ho ht (k H locs ls hI hl)
theorem gm_tableOut (G : gG E cc nL) {dflt lo hi : Int} {offs : Array Int} {len : Nat} {x : Int32} (tgt : Nat) (d : decode cc pc = .ok (.tableswitch dflt lo hi offs, len)) (h : x.toInt < lo ∨ hi < x.toInt) (ht : (pc : Int) + dflt = (tgt : Int)) (k : gm E nL I lv tgt st) : gm E nL I lv pc (.int x :: st) := by
  obtain ⟨p, l, e, R, s, m, args, below, meth, c, mc, ms, Q⟩ := E
  obtain ⟨hx, hb, hml⟩ := G
  intro H locs ls hI hl
  exact lv_tableOut hx hb d h ht (k H locs ls hI hl)
end LG
section LW
variable {Y : lY} {E : gE} {b L : Nat} {xs : Nat → Int32} {lv : List Value} {pc : Nat} {st rest : List Value} {cc' : ByteArray} {S1 S2 : ob_S} {y : MethodName} {nL' fr' loc' idx np : Nat} {ret : Option FieldType} {as : List Value}
theorem lw_sld (G : lw_G Y E b L xs) (hL : L ≤ 193) {a : Nat} (ha : a < L) (d : decode code pc = .ok (.iaload, 1)) (k : gm E 4 (lw_I Y S1 S2) lv (pc + 1) (.int (xs a) :: st)) : gm E 4 (lw_I Y S1 S2) lv pc (.int (nI a) :: .ref b :: st) := by
  obtain ⟨p, l, e, R, s, m, args, below, meth, cd, mc, ms, Q⟩ := E
  obtain ⟨D, cs1, h1, ad1, cs2, h2, ad2, H0⟩ := Y
  obtain ⟨⟨hx, hb, hml⟩, rfl, hown, hts, hK, rfl, rfl, rfl, hX, hbl⟩ := G
  intro H locs ls hI hl
  refine va_sld (A := fun q : Nat => s.heap.size ≤ q) hx hb hX hbl (Nat.not_le.mpr hbl) hI.2.2 (vp_in_nI ha (by omega)) d ?_
  rw [nI_clamp (by omega)]
  exact k H locs ls hI hl
theorem lw_slen (G : lw_G Y E b L xs) (d : decode code pc = .ok (.arraylength, 1)) (k : gm E 4 (lw_I Y S1 S2) lv (pc + 1) (.int (nI L) :: st)) : gm E 4 (lw_I Y S1 S2) lv pc (.ref b :: st) := by
  obtain ⟨p, l, e, R, s, m, args, below, meth, cd, mc, ms, Q⟩ := E
  obtain ⟨D, cs1, h1, ad1, cs2, h2, ad2, H0⟩ := Y
  obtain ⟨⟨hx, hb, hml⟩, rfl, hown, hts, hK, rfl, rfl, rfl, hX, hbl⟩ := G
  intro H locs ls hI hl
  exact va_slen (A := fun q : Nat => s.heap.size ≤ q) hx hb hX hbl (Nat.not_le.mpr hbl) hI.2.2 d (k H locs ls hI hl)
set_option maxHeartbeats 8000000 in
theorem lw_call1 {post : Int32 → ob_S → Prop} (G : lw_G Y E b L xs) (hm : ob_Met K1 y cc' nL' ret fr' loc' as S1 post) (hw : GoodIn lw_all (wsV RX0 idx RX1 y (ws_ y cc' nL' ret))) (hy : y.cls = RX1) (hnp : (parseMethodDescriptor y.desc).map (fun d => d.parameters.length) = some np) (hn : as.length = np) (hf : ob_fit 6 192 fr' loc' nL' = true) (hst : st = as.reverse ++ .ref (l_h1 Y) :: rest) (hcat : (rest.map fun v => v.category).sum ≤ 8) (d : decode code pc = .ok (.invokevirtual idx, 3)) (k : ∀ (r : Int32) (S' : ob_S), post r S' → gm E 4 (lw_I Y S' S2) lv (pc + 3) (.int r :: rest)) : gm E 4 (lw_I Y S1 S2) lv pc st := by
  subst hst
  obtain ⟨p, l, e, R, s, m, args, below, meth, cd, mc, ms, Q⟩ := E
  obtain ⟨D, cs1, h1, ad1, cs2, h2, ad2, H0⟩ := Y
  obtain ⟨⟨hx, hb, hml⟩, rfl, hown, hts, hK, rfl, rfl, rfl, hX, hbl⟩ := G
  obtain ⟨hf1, hf2⟩ := ob_fit_spec hf
  intro H locs ls hI hl
  obtain ⟨hP, hD, hS⟩ := hI
  have hA : ∀ q : Nat, s.heap.size ≤ q → (fun q : Nat => s.heap.size ≤ q) q := fun _ h => h
  have hPc := hP.sub (ws' := (ob_W K1 cs1 h1 ad1 S1)) [0, 1, 2, 3, 4, 5, 6, 7, 8, 9] rfl
  have hDc := hD.sub (ws' := (ob_W K1 cs1 h1 ad1 S1)) [0, 1, 2, 3, 4, 5, 6, 7, 8, 9] (by decide) rfl
  have hKc := hK.sub (tys' := ob_ty cs1 0 shX1) [0, 1, 2, 3, 4, 5, 6, 7, 8] rfl
  have hFc := va_free (wc := (ob_W K1 cs1 h1 ad1 S1)) hD hS hA [0, 1, 2, 3, 4, 5, 6, 7, 8, 9] rfl
  refine va_calli (va_runV (As := as) (rest := rest) ⟨hx, hb, hml, hown, hts⟩ (hm l D cs1 h1 ad1 H.size) (cwV np hts hw rfl rfl rfl ⟨hy, by rw [hy]; decide +kernel, by rw [hy]; decide +kernel, hnp⟩ ⟨hf1, hf2⟩) ⟨fun a U g mk q => by obtain ⟨q0, q1, qP, qK, qD⟩ := q; exact ⟨q0, q1, qP, va_K.moved (u := U) (U := U.calling g mk a) (Vm.Alike.refl U.vm) qK, qD⟩, va_recv hKc hPc (ci := 0) (q0 := 0) rfl rfl, fun U hU hW => ⟨rfl, by rw [hU], by rw [hU]; exact hPc, va_K.moved hW.alike hKc, hDc.weaken (fun _ _ _ _ => trivial)⟩⟩ rfl hn hl.1 rfl (lv_room hcat) d ⟨Nat.le_refl _, Nat.le_refl _⟩) hS (fun q _ h => hFc q h) hFc (fun r u t H1 locs1 ht hvm hw1 hB hz1 hk1 hS => ?_)
  obtain ⟨hP1, hK1, hD1⟩ := hB
  rw [ht] at hP1
  obtain ⟨hP, hD⟩ := va_join (wr := (ob_W K2 cs2 h2 ad2 S2)) (w1 := (ob_W K1 cs1 h1 ad1 u)) hP hD [0, 1, 2, 3, 4, 5, 6, 7, 8, 9] [10, 11, 12, 13, 14, 15, 16, 17] rfl rfl (by decide) (by decide) hk1 hFc hP1 hD1
  exact k r u hw1 H1 locs1 ls ⟨hP.sub (ws' := ob_W K1 cs1 h1 ad1 u ++ ob_W K2 cs2 h2 ad2 S2) [8, 9, 10, 11, 12, 13, 14, 15, 16, 17, 0, 1, 2, 3, 4, 5, 6, 7] rfl, hD.sub (ws' := ob_W K1 cs1 h1 ad1 u ++ ob_W K2 cs2 h2 ad2 S2) [8, 9, 10, 11, 12, 13, 14, 15, 16, 17, 0, 1, 2, 3, 4, 5, 6, 7] (by decide) rfl, hS⟩ hl
set_option maxHeartbeats 8000000 in
theorem lw_call2 {post : Int32 → ob_S → Prop} (G : lw_G Y E b L xs) (hm : ob_Met K2 y cc' nL' ret fr' loc' as S2 post) (hw : GoodIn lw_all (wsV RX0 idx RX2 y (ws_ y cc' nL' ret))) (hy : y.cls = RX2) (hnp : (parseMethodDescriptor y.desc).map (fun d => d.parameters.length) = some np) (hn : as.length = np) (hf : ob_fit 6 192 fr' loc' nL' = true) (hst : st = as.reverse ++ .ref (l_h2 Y) :: rest) (hcat : (rest.map fun v => v.category).sum ≤ 8) (d : decode code pc = .ok (.invokevirtual idx, 3)) (k : ∀ (r : Int32) (S' : ob_S), post r S' → gm E 4 (lw_I Y S1 S') lv (pc + 3) (.int r :: rest)) : gm E 4 (lw_I Y S1 S2) lv pc st := by
  subst hst
  obtain ⟨p, l, e, R, s, m, args, below, meth, cd, mc, ms, Q⟩ := E
  obtain ⟨D, cs1, h1, ad1, cs2, h2, ad2, H0⟩ := Y
  obtain ⟨⟨hx, hb, hml⟩, rfl, hown, hts, hK, rfl, rfl, rfl, hX, hbl⟩ := G
  obtain ⟨hf1, hf2⟩ := ob_fit_spec hf
  intro H locs ls hI hl
  obtain ⟨hP, hD, hS⟩ := hI
  have hA : ∀ q : Nat, s.heap.size ≤ q → (fun q : Nat => s.heap.size ≤ q) q := fun _ h => h
  have hPc := hP.sub (ws' := (ob_W K2 cs2 h2 ad2 S2)) [10, 11, 12, 13, 14, 15, 16, 17] rfl
  have hDc := hD.sub (ws' := (ob_W K2 cs2 h2 ad2 S2)) [10, 11, 12, 13, 14, 15, 16, 17] (by decide) rfl
  have hKc := hK.sub (tys' := ob_ty cs2 0 shX2) [9, 10, 11, 12, 13, 14, 15] rfl
  have hFc := va_free (wc := (ob_W K2 cs2 h2 ad2 S2)) hD hS hA [10, 11, 12, 13, 14, 15, 16, 17] rfl
  refine va_calli (va_runV (As := as) (rest := rest) ⟨hx, hb, hml, hown, hts⟩ (hm l D cs2 h2 ad2 H.size) (cwV np hts hw rfl rfl rfl ⟨hy, by rw [hy]; decide +kernel, by rw [hy]; decide +kernel, hnp⟩ ⟨hf1, hf2⟩) ⟨fun a U g mk q => by obtain ⟨q0, q1, qP, qK, qD⟩ := q; exact ⟨q0, q1, qP, va_K.moved (u := U) (U := U.calling g mk a) (Vm.Alike.refl U.vm) qK, qD⟩, va_recv hKc hPc (ci := 1) (q0 := 0) rfl rfl, fun U hU hW => ⟨rfl, by rw [hU], by rw [hU]; exact hPc, va_K.moved hW.alike hKc, hDc.weaken (fun _ _ _ _ => trivial)⟩⟩ rfl hn hl.1 rfl (lv_room hcat) d ⟨Nat.le_refl _, Nat.le_refl _⟩) hS (fun q _ h => hFc q h) hFc (fun r u t H1 locs1 ht hvm hw1 hB hz1 hk1 hS => ?_)
  obtain ⟨hP1, hK1, hD1⟩ := hB
  rw [ht] at hP1
  obtain ⟨hP, hD⟩ := va_join (wr := (ob_W K1 cs1 h1 ad1 S1)) (w1 := (ob_W K2 cs2 h2 ad2 u)) hP hD [10, 11, 12, 13, 14, 15, 16, 17] [0, 1, 2, 3, 4, 5, 6, 7, 8, 9] rfl rfl (by decide) (by decide) hk1 hFc hP1 hD1
  exact k r u hw1 H1 locs1 ls ⟨hP, hD, hS⟩ hl
end LW
/-- the class and its model hold the same net and inputs -/
def lw_sm (N : Nat) (S1 S2 : ob_S) : Prop := ∃ (C : Nat) (lo hi : Nat → Nat) (gv : Nat → Int32) (F1 F2 : Nat → Nat → Int32), ok_net N C lo hi ∧ xF F1 N C lo hi gv ∧ mF F2 N C lo hi gv ∧ S1 = (nI N, nI C, F1) ∧ S2 = (nI N, nI C, F2)
theorem pR_eq {r1 r2 : Int32} {C1 C2 : Nat} {lo1 lo2 hi1 hi2 : Nat → Nat} (h : (r1, C1, lo1, hi1) = (r2, C2, lo2, hi2)) : r1 = r2 ∧ C1 = C2 ∧ lo1 = lo2 ∧ hi1 = hi2 := by
  injection h with a b
  injection b with b c
  injection c with c d
  exact ⟨a, b, c, d⟩
theorem and15 (x : Int32) : ∃ k, k < 16 ∧ x &&& nI 15 = nI k := by
  refine ⟨(x &&& nI 15).toBitVec.toNat, ?_, ?_⟩
  · rw [Int32.toBitVec_and, BitVec.toNat_and]
    exact Nat.lt_of_le_of_lt Nat.and_le_right (by decide)
  · apply Int32.toBitVec_inj.mp
    rw [nb_bv, BitVec.ofNat_toNat]
    simp
theorem lw_end {L i : Nat} (hL : L ≤ 193) (hi : i ≤ 400) (h : ¬ nI L - nI 3 < nI i) : i + 2 < L := by
  by_cases h3 : 3 ≤ L
  · rw [pk_sub h3] at h
    have h4 : ¬ L - 3 < i := fun q => h ((nI_ltI (by omega) (by omega)).mpr q)
    omega
  · exfalso
    apply h
    have h0 : nI L - nI 3 < nI 0 := by
      have : L = 0 ∨ L = 1 ∨ L = 2 := by omega
      rcases this with rfl | rfl | rfl <;> decide
    exact Int32.lt_of_lt_of_le h0 ((nI_leI (by decide) (by omega)).mpr (Nat.zero_le i))
set_option maxHeartbeats 4000000 in
theorem l_add {Y : lY} {E : gE} {b L i : Nat} {xs : Nat → Int32} {N C : Nat} {lo hi : Nat → Nat} {gv : Nat → Int32} {F1 F2 : Nat → Nat → Int32} (G : lw_G Y E b L xs) (hL : L ≤ 193) (hi2 : i + 2 < L) (hN : ok_net N C lo hi) (hF1 : xF F1 N C lo hi gv) (hF2 : mF F2 N C lo hi gv) (K : KF N) (kont : ∀ S1' S2' : ob_S, lw_sm N S1' S2' → gm E 4 (lw_I Y S1' S2') [.ref b, .ref (l_h1 Y), .ref (l_h2 Y), .int (nI i)] 431 []) : gm E 4 (lw_I Y (nI N, nI C, F1) (nI N, nI C, F2)) [.ref b, .ref (l_h1 Y), .ref (l_h2 Y), .int (nI i)] 116 [] := by
  have g := G.1
  refine gm_aload_n g dL_law_116 rfl ?_
  refine gm_aload_n g dL_law_117 rfl ?_
  refine gm_iload_n g dL_law_118 rfl ?_
  refine gm_iconst (v := nI 1) g dL_law_119 (by decide) ?_
  refine gN_iadd g dL_law_120 ?_
  refine lw_sld G hL (by omega) dL_law_121 ?_
  refine gm_aload_n g dL_law_122 rfl ?_
  refine gm_iload_n g dL_law_123 rfl ?_
  refine gm_iconst (v := nI 2) g dL_law_124 (by decide) ?_
  refine gN_iadd g dL_law_125 ?_
  refine lw_sld G hL (by omega) dL_law_126 ?_
  refine lw_call1 (rest := []) G (x_add hN hF1 (xs (i + 1)) (xs (i + 2))) wLX1_add rfl npX1_add rfl rfl rfl (Nat.le_of_ble_eq_true rfl) dL_law_127 (fun r1 S1' p1 => ?_)
  refine gm_aload_n g dL_law_130 rfl ?_
  refine gm_aload_n g dL_law_131 rfl ?_
  refine gm_iload_n g dL_law_132 rfl ?_
  refine gm_iconst (v := nI 1) g dL_law_133 (by decide) ?_
  refine gN_iadd g dL_law_134 ?_
  refine lw_sld G hL (by omega) dL_law_135 ?_
  refine gm_aload_n g dL_law_136 rfl ?_
  refine gm_iload_n g dL_law_137 rfl ?_
  refine gm_iconst (v := nI 2) g dL_law_138 (by decide) ?_
  refine gN_iadd g dL_law_139 ?_
  refine lw_sld G hL (by omega) dL_law_140 ?_
  refine lw_call2 (rest := [.int r1]) G (m_add hN hF2 (xs (i + 1)) (xs (i + 2))) wLX2_add rfl npX2_add rfl rfl rfl (Nat.le_of_ble_eq_true rfl) dL_law_141 (fun r2 S2' p2 => ?_)
  obtain ⟨er, hV⟩ : r1 = r2 ∧ lw_sm N S1' S2' := by
    obtain ⟨C1, lo1, hi1, G1, e1, o1, f1, q1⟩ := p1
    obtain ⟨C2, lo2, hi2, G2, e2, o2, f2, q2⟩ := p2
    obtain ⟨qa, qb, qc, qd⟩ := pR_eq (q1.trans q2.symm)
    subst qb
    subst qc
    subst qd
    exact ⟨qa, C1, lo1, hi1, gv, G1, G2, o1, f1, f2, e1, e2⟩
  exact gm_icmp_eq g 431 dL_law_144 (by decide) (fun _ => kont _ _ hV) (fun h => absurd er h)
set_option maxHeartbeats 4000000 in
theorem l_drop {Y : lY} {E : gE} {b L i : Nat} {xs : Nat → Int32} {N C : Nat} {lo hi : Nat → Nat} {gv : Nat → Int32} {F1 F2 : Nat → Nat → Int32} (G : lw_G Y E b L xs) (hL : L ≤ 193) (hi2 : i + 2 < L) (hN : ok_net N C lo hi) (hF1 : xF F1 N C lo hi gv) (hF2 : mF F2 N C lo hi gv) (K : KF N) (kont : ∀ S1' S2' : ob_S, lw_sm N S1' S2' → gm E 4 (lw_I Y S1' S2') [.ref b, .ref (l_h1 Y), .ref (l_h2 Y), .int (nI i)] 431 []) : gm E 4 (lw_I Y (nI N, nI C, F1) (nI N, nI C, F2)) [.ref b, .ref (l_h1 Y), .ref (l_h2 Y), .int (nI i)] 149 [] := by
  have g := G.1
  refine gm_aload_n g dL_law_149 rfl ?_
  refine gm_aload_n g dL_law_150 rfl ?_
  refine gm_iload_n g dL_law_151 rfl ?_
  refine gm_iconst (v := nI 1) g dL_law_152 (by decide) ?_
  refine gN_iadd g dL_law_153 ?_
  refine lw_sld G hL (by omega) dL_law_154 ?_
  refine lw_call1 (rest := []) G (x_drop hN hF1 (xs (i + 1))) wLX1_drop rfl npX1_drop rfl rfl rfl (Nat.le_of_ble_eq_true rfl) dL_law_155 (fun r1 S1' p1 => ?_)
  refine gm_aload_n g dL_law_158 rfl ?_
  refine gm_aload_n g dL_law_159 rfl ?_
  refine gm_iload_n g dL_law_160 rfl ?_
  refine gm_iconst (v := nI 1) g dL_law_161 (by decide) ?_
  refine gN_iadd g dL_law_162 ?_
  refine lw_sld G hL (by omega) dL_law_163 ?_
  refine lw_call2 (rest := [.int r1]) G (m_drop hN hF2 (xs (i + 1))) wLX2_drop rfl npX2_drop rfl rfl rfl (Nat.le_of_ble_eq_true rfl) dL_law_164 (fun r2 S2' p2 => ?_)
  obtain ⟨er, hV⟩ : r1 = r2 ∧ lw_sm N S1' S2' := by
    obtain ⟨C1, lo1, hi1, G1, e1, o1, f1, q1⟩ := p1
    obtain ⟨C2, lo2, hi2, G2, e2, o2, f2, q2⟩ := p2
    obtain ⟨qa, qb, qc, qd⟩ := pR_eq (q1.trans q2.symm)
    subst qb
    subst qc
    subst qd
    exact ⟨qa, C1, lo1, hi1, gv, G1, G2, o1, f1, f2, e1, e2⟩
  exact gm_icmp_eq g 431 dL_law_167 (by decide) (fun _ => kont _ _ hV) (fun h => absurd er h)
set_option maxHeartbeats 4000000 in
theorem l_swap {Y : lY} {E : gE} {b L i : Nat} {xs : Nat → Int32} {N C : Nat} {lo hi : Nat → Nat} {gv : Nat → Int32} {F1 F2 : Nat → Nat → Int32} (G : lw_G Y E b L xs) (hL : L ≤ 193) (hi2 : i + 2 < L) (hN : ok_net N C lo hi) (hF1 : xF F1 N C lo hi gv) (hF2 : mF F2 N C lo hi gv) (K : KF N) (kont : ∀ S1' S2' : ob_S, lw_sm N S1' S2' → gm E 4 (lw_I Y S1' S2') [.ref b, .ref (l_h1 Y), .ref (l_h2 Y), .int (nI i)] 431 []) : gm E 4 (lw_I Y (nI N, nI C, F1) (nI N, nI C, F2)) [.ref b, .ref (l_h1 Y), .ref (l_h2 Y), .int (nI i)] 172 [] := by
  have g := G.1
  refine gm_aload_n g dL_law_172 rfl ?_
  refine gm_aload_n g dL_law_173 rfl ?_
  refine gm_iload_n g dL_law_174 rfl ?_
  refine gm_iconst (v := nI 1) g dL_law_175 (by decide) ?_
  refine gN_iadd g dL_law_176 ?_
  refine lw_sld G hL (by omega) dL_law_177 ?_
  refine lw_call1 (rest := []) G (x_swap hN hF1 (xs (i + 1))) wLX1_swap rfl npX1_swap rfl rfl rfl (Nat.le_of_ble_eq_true rfl) dL_law_178 (fun r1 S1' p1 => ?_)
  refine gm_aload_n g dL_law_181 rfl ?_
  refine gm_aload_n g dL_law_182 rfl ?_
  refine gm_iload_n g dL_law_183 rfl ?_
  refine gm_iconst (v := nI 1) g dL_law_184 (by decide) ?_
  refine gN_iadd g dL_law_185 ?_
  refine lw_sld G hL (by omega) dL_law_186 ?_
  refine lw_call2 (rest := [.int r1]) G (m_swap hN hF2 (xs (i + 1))) wLX2_swap rfl npX2_swap rfl rfl rfl (Nat.le_of_ble_eq_true rfl) dL_law_187 (fun r2 S2' p2 => ?_)
  obtain ⟨er, hV⟩ : r1 = r2 ∧ lw_sm N S1' S2' := by
    obtain ⟨C1, lo1, hi1, G1, e1, o1, f1, q1⟩ := p1
    obtain ⟨C2, lo2, hi2, G2, e2, o2, f2, q2⟩ := p2
    obtain ⟨qa, qb, qc, qd⟩ := pR_eq (q1.trans q2.symm)
    subst qb
    subst qc
    subst qd
    exact ⟨qa, C1, lo1, hi1, gv, G1, G2, o1, f1, f2, e1, e2⟩
  exact gm_icmp_eq g 431 dL_law_190 (by decide) (fun _ => kont _ _ hV) (fun h => absurd er h)
set_option maxHeartbeats 4000000 in
theorem l_turn {Y : lY} {E : gE} {b L i : Nat} {xs : Nat → Int32} {N C : Nat} {lo hi : Nat → Nat} {gv : Nat → Int32} {F1 F2 : Nat → Nat → Int32} (G : lw_G Y E b L xs) (hL : L ≤ 193) (hi2 : i + 2 < L) (hN : ok_net N C lo hi) (hF1 : xF F1 N C lo hi gv) (hF2 : mF F2 N C lo hi gv) (K : KF N) (kont : ∀ S1' S2' : ob_S, lw_sm N S1' S2' → gm E 4 (lw_I Y S1' S2') [.ref b, .ref (l_h1 Y), .ref (l_h2 Y), .int (nI i)] 431 []) : gm E 4 (lw_I Y (nI N, nI C, F1) (nI N, nI C, F2)) [.ref b, .ref (l_h1 Y), .ref (l_h2 Y), .int (nI i)] 195 [] := by
  have g := G.1
  refine gm_aload_n g dL_law_195 rfl ?_
  refine lw_call1 (rest := []) G (x_turn hN hF1) wLX1_turn rfl npX1_turn rfl rfl rfl (Nat.le_of_ble_eq_true rfl) dL_law_196 (fun r1 S1' p1 => ?_)
  refine gm_aload_n g dL_law_199 rfl ?_
  refine lw_call2 (rest := [.int r1]) G (m_turn hN hF2) wLX2_turn rfl npX2_turn rfl rfl rfl (Nat.le_of_ble_eq_true rfl) dL_law_200 (fun r2 S2' p2 => ?_)
  obtain ⟨er, hV⟩ : r1 = r2 ∧ lw_sm N S1' S2' := by
    obtain ⟨C1, lo1, hi1, G1, e1, o1, f1, q1⟩ := p1
    obtain ⟨C2, lo2, hi2, G2, e2, o2, f2, q2⟩ := p2
    obtain ⟨qa, qb, qc, qd⟩ := pR_eq (q1.trans q2.symm)
    subst qb
    subst qc
    subst qd
    exact ⟨qa, C1, lo1, hi1, gv, G1, G2, o1, f1, f2, e1, e2⟩
  exact gm_icmp_eq g 431 dL_law_203 (by decide) (fun _ => kont _ _ hV) (fun h => absurd er h)
set_option maxHeartbeats 4000000 in
theorem l_size {Y : lY} {E : gE} {b L i : Nat} {xs : Nat → Int32} {N C : Nat} {lo hi : Nat → Nat} {gv : Nat → Int32} {F1 F2 : Nat → Nat → Int32} (G : lw_G Y E b L xs) (hL : L ≤ 193) (hi2 : i + 2 < L) (hN : ok_net N C lo hi) (hF1 : xF F1 N C lo hi gv) (hF2 : mF F2 N C lo hi gv) (K : KF N) (kont : ∀ S1' S2' : ob_S, lw_sm N S1' S2' → gm E 4 (lw_I Y S1' S2') [.ref b, .ref (l_h1 Y), .ref (l_h2 Y), .int (nI i)] 431 []) : gm E 4 (lw_I Y (nI N, nI C, F1) (nI N, nI C, F2)) [.ref b, .ref (l_h1 Y), .ref (l_h2 Y), .int (nI i)] 208 [] := by
  have g := G.1
  refine gm_aload_n g dL_law_208 rfl ?_
  refine lw_call1 (rest := []) G (x_size (nI N) (nI C) F1) wLX1_size rfl npX1_size rfl rfl rfl (Nat.le_of_ble_eq_true rfl) dL_law_209 (fun r1 S1' p1 => ?_)
  refine gm_aload_n g dL_law_212 rfl ?_
  refine lw_call2 (rest := [.int r1]) G (m_size (nI N) (nI C) F2) wLX2_size rfl npX2_size rfl rfl rfl (Nat.le_of_ble_eq_true rfl) dL_law_213 (fun r2 S2' p2 => ?_)
  obtain ⟨er, hV⟩ : r1 = r2 ∧ lw_sm N S1' S2' := by
    exact ⟨p1.2.trans p2.2.symm, C, lo, hi, gv, F1, F2, hN, hF1, hF2, p1.1, p2.1⟩
  exact gm_icmp_eq g 431 dL_law_216 (by decide) (fun _ => kont _ _ hV) (fun h => absurd er h)
set_option maxHeartbeats 4000000 in
theorem l_input {Y : lY} {E : gE} {b L i : Nat} {xs : Nat → Int32} {N C : Nat} {lo hi : Nat → Nat} {gv : Nat → Int32} {F1 F2 : Nat → Nat → Int32} (G : lw_G Y E b L xs) (hL : L ≤ 193) (hi2 : i + 2 < L) (hN : ok_net N C lo hi) (hF1 : xF F1 N C lo hi gv) (hF2 : mF F2 N C lo hi gv) (K : KF N) (kont : ∀ S1' S2' : ob_S, lw_sm N S1' S2' → gm E 4 (lw_I Y S1' S2') [.ref b, .ref (l_h1 Y), .ref (l_h2 Y), .int (nI i)] 431 []) : gm E 4 (lw_I Y (nI N, nI C, F1) (nI N, nI C, F2)) [.ref b, .ref (l_h1 Y), .ref (l_h2 Y), .int (nI i)] 221 [] := by
  have g := G.1
  refine gm_aload_n g dL_law_221 rfl ?_
  refine gm_aload_n g dL_law_222 rfl ?_
  refine gm_iload_n g dL_law_223 rfl ?_
  refine gm_iconst (v := nI 1) g dL_law_224 (by decide) ?_
  refine gN_iadd g dL_law_225 ?_
  refine lw_sld G hL (by omega) dL_law_226 ?_
  refine gm_aload_n g dL_law_227 rfl ?_
  refine gm_iload_n g dL_law_228 rfl ?_
  refine gm_iconst (v := nI 2) g dL_law_229 (by decide) ?_
  refine gN_iadd g dL_law_230 ?_
  refine lw_sld G hL (by omega) dL_law_231 ?_
  refine lw_call1 (rest := []) G (x_input hN hF1 (xs (i + 1)) (xs (i + 2))) wLX1_input rfl npX1_input rfl rfl rfl (Nat.le_of_ble_eq_true rfl) dL_law_232 (fun r1 S1' p1 => ?_)
  refine gm_aload_n g dL_law_235 rfl ?_
  refine gm_aload_n g dL_law_236 rfl ?_
  refine gm_iload_n g dL_law_237 rfl ?_
  refine gm_iconst (v := nI 1) g dL_law_238 (by decide) ?_
  refine gN_iadd g dL_law_239 ?_
  refine lw_sld G hL (by omega) dL_law_240 ?_
  refine gm_aload_n g dL_law_241 rfl ?_
  refine gm_iload_n g dL_law_242 rfl ?_
  refine gm_iconst (v := nI 2) g dL_law_243 (by decide) ?_
  refine gN_iadd g dL_law_244 ?_
  refine lw_sld G hL (by omega) dL_law_245 ?_
  refine lw_call2 (rest := [.int r1]) G (m_input hN hF2 (xs (i + 1)) (xs (i + 2))) wLX2_input rfl npX2_input rfl rfl rfl (Nat.le_of_ble_eq_true rfl) dL_law_246 (fun r2 S2' p2 => ?_)
  obtain ⟨er, hV⟩ : r1 = r2 ∧ lw_sm N S1' S2' := by
    obtain ⟨G1, e1, q1⟩ := p1
    obtain ⟨G2, e2, q2⟩ := p2
    rcases q1 with ⟨a1, b1, c1⟩ | ⟨a1, b1, c1⟩
    · rcases q2 with ⟨a2, b2, c2⟩ | ⟨a2, b2, c2⟩
      · exact ⟨b1.trans b2.symm, C, lo, hi, gv, G1, G2, hN, c1, c2, e1, e2⟩
      · exact absurd a2 a1
    · rcases q2 with ⟨a2, b2, c2⟩ | ⟨a2, b2, c2⟩
      · exact absurd a1 a2
      · exact ⟨b1.trans b2.symm, C, lo, hi, _, G1, G2, hN, c1, c2, e1, e2⟩
  exact gm_icmp_eq g 431 dL_law_249 (by decide) (fun _ => kont _ _ hV) (fun h => absurd er h)
set_option maxHeartbeats 4000000 in
theorem l_output {Y : lY} {E : gE} {b L i : Nat} {xs : Nat → Int32} {N C : Nat} {lo hi : Nat → Nat} {gv : Nat → Int32} {F1 F2 : Nat → Nat → Int32} (G : lw_G Y E b L xs) (hL : L ≤ 193) (hi2 : i + 2 < L) (hN : ok_net N C lo hi) (hF1 : xF F1 N C lo hi gv) (hF2 : mF F2 N C lo hi gv) (K : KF N) (kont : ∀ S1' S2' : ob_S, lw_sm N S1' S2' → gm E 4 (lw_I Y S1' S2') [.ref b, .ref (l_h1 Y), .ref (l_h2 Y), .int (nI i)] 431 []) : gm E 4 (lw_I Y (nI N, nI C, F1) (nI N, nI C, F2)) [.ref b, .ref (l_h1 Y), .ref (l_h2 Y), .int (nI i)] 254 [] := by
  have g := G.1
  refine gm_aload_n g dL_law_254 rfl ?_
  refine gm_aload_n g dL_law_255 rfl ?_
  refine gm_iload_n g dL_law_256 rfl ?_
  refine gm_iconst (v := nI 1) g dL_law_257 (by decide) ?_
  refine gN_iadd g dL_law_258 ?_
  refine lw_sld G hL (by omega) dL_law_259 ?_
  refine lw_call1 (rest := []) G (x_output hN hF1 (xs (i + 1))) wLX1_output rfl npX1_output rfl rfl rfl (Nat.le_of_ble_eq_true rfl) dL_law_260 (fun r1 S1' p1 => ?_)
  refine gm_aload_n g dL_law_263 rfl ?_
  refine gm_aload_n g dL_law_264 rfl ?_
  refine gm_iload_n g dL_law_265 rfl ?_
  refine gm_iconst (v := nI 1) g dL_law_266 (by decide) ?_
  refine gN_iadd g dL_law_267 ?_
  refine lw_sld G hL (by omega) dL_law_268 ?_
  refine lw_call2 (rest := [.int r1]) G (m_output hN hF2 (xs (i + 1))) wLX2_output rfl npX2_output rfl rfl rfl (Nat.le_of_ble_eq_true rfl) dL_law_269 (fun r2 S2' p2 => ?_)
  obtain ⟨er, hV⟩ : r1 = r2 ∧ lw_sm N S1' S2' := by
    obtain ⟨G1, e1, f1, q1⟩ := p1
    obtain ⟨G2, e2, f2, q2⟩ := p2
    exact ⟨q1.trans q2.symm, C, lo, hi, gv, G1, G2, hN, f1, f2, e1, e2⟩
  exact gm_icmp_eq g 431 dL_law_272 (by decide) (fun _ => kont _ _ hV) (fun h => absurd er h)
set_option maxHeartbeats 4000000 in
theorem l_exchanges {Y : lY} {E : gE} {b L i : Nat} {xs : Nat → Int32} {N C : Nat} {lo hi : Nat → Nat} {gv : Nat → Int32} {F1 F2 : Nat → Nat → Int32} (G : lw_G Y E b L xs) (hL : L ≤ 193) (hi2 : i + 2 < L) (hN : ok_net N C lo hi) (hF1 : xF F1 N C lo hi gv) (hF2 : mF F2 N C lo hi gv) (K : KF N) (kont : ∀ S1' S2' : ob_S, lw_sm N S1' S2' → gm E 4 (lw_I Y S1' S2') [.ref b, .ref (l_h1 Y), .ref (l_h2 Y), .int (nI i)] 431 []) : gm E 4 (lw_I Y (nI N, nI C, F1) (nI N, nI C, F2)) [.ref b, .ref (l_h1 Y), .ref (l_h2 Y), .int (nI i)] 277 [] := by
  have g := G.1
  refine gm_aload_n g dL_law_277 rfl ?_
  refine lw_call1 (rest := []) G (x_exchanges hN hF1) wLX1_exchanges rfl npX1_exchanges rfl rfl rfl (Nat.le_of_ble_eq_true rfl) dL_law_278 (fun r1 S1' p1 => ?_)
  refine gm_aload_n g dL_law_281 rfl ?_
  refine lw_call2 (rest := [.int r1]) G (m_exchanges hN hF2) wLX2_exchanges rfl npX2_exchanges rfl rfl rfl (Nat.le_of_ble_eq_true rfl) dL_law_282 (fun r2 S2' p2 => ?_)
  obtain ⟨er, hV⟩ : r1 = r2 ∧ lw_sm N S1' S2' := by
    obtain ⟨G1, e1, f1, q1⟩ := p1
    obtain ⟨G2, e2, f2, q2⟩ := p2
    exact ⟨q1.trans q2.symm, C, lo, hi, gv, G1, G2, hN, f1, f2, e1, e2⟩
  exact gm_icmp_eq g 431 dL_law_285 (by decide) (fun _ => kont _ _ hV) (fun h => absurd er h)
set_option maxHeartbeats 4000000 in
theorem l_sorts {Y : lY} {E : gE} {b L i : Nat} {xs : Nat → Int32} {N C : Nat} {lo hi : Nat → Nat} {gv : Nat → Int32} {F1 F2 : Nat → Nat → Int32} (G : lw_G Y E b L xs) (hL : L ≤ 193) (hi2 : i + 2 < L) (hN : ok_net N C lo hi) (hF1 : xF F1 N C lo hi gv) (hF2 : mF F2 N C lo hi gv) (K : KF N) (kont : ∀ S1' S2' : ob_S, lw_sm N S1' S2' → gm E 4 (lw_I Y S1' S2') [.ref b, .ref (l_h1 Y), .ref (l_h2 Y), .int (nI i)] 431 []) : gm E 4 (lw_I Y (nI N, nI C, F1) (nI N, nI C, F2)) [.ref b, .ref (l_h1 Y), .ref (l_h2 Y), .int (nI i)] 290 [] := by
  have g := G.1
  refine gm_aload_n g dL_law_290 rfl ?_
  refine lw_call1 (rest := []) G (x_sorts hN hF1) wLX1_sorts rfl npX1_sorts rfl rfl rfl (Nat.le_of_ble_eq_true rfl) dL_law_291 (fun r1 S1' p1 => ?_)
  refine gm_aload_n g dL_law_294 rfl ?_
  refine lw_call2 (rest := [.int r1]) G (m_sorts hN hF2 K.1) wLX2_sorts rfl npX2_sorts rfl rfl rfl (Nat.le_of_ble_eq_true rfl) dL_law_295 (fun r2 S2' p2 => ?_)
  obtain ⟨er, hV⟩ : r1 = r2 ∧ lw_sm N S1' S2' := by
    obtain ⟨G1, e1, f1, q1⟩ := p1
    obtain ⟨G2, e2, f2, q2⟩ := p2
    exact ⟨by rw [q1, q2, sorts_eq hN K], C, lo, hi, gv, G1, G2, hN, f1, f2, e1, e2⟩
  exact gm_icmp_eq g 431 dL_law_298 (by decide) (fun _ => kont _ _ hV) (fun h => absurd er h)
set_option maxHeartbeats 4000000 in
theorem l_sorted {Y : lY} {E : gE} {b L i : Nat} {xs : Nat → Int32} {N C : Nat} {lo hi : Nat → Nat} {gv : Nat → Int32} {F1 F2 : Nat → Nat → Int32} (G : lw_G Y E b L xs) (hL : L ≤ 193) (hi2 : i + 2 < L) (hN : ok_net N C lo hi) (hF1 : xF F1 N C lo hi gv) (hF2 : mF F2 N C lo hi gv) (K : KF N) (kont : ∀ S1' S2' : ob_S, lw_sm N S1' S2' → gm E 4 (lw_I Y S1' S2') [.ref b, .ref (l_h1 Y), .ref (l_h2 Y), .int (nI i)] 431 []) : gm E 4 (lw_I Y (nI N, nI C, F1) (nI N, nI C, F2)) [.ref b, .ref (l_h1 Y), .ref (l_h2 Y), .int (nI i)] 303 [] := by
  have g := G.1
  refine gm_aload_n g dL_law_303 rfl ?_
  refine lw_call1 (rest := []) G (x_sorted hN hF1) wLX1_sorted rfl npX1_sorted rfl rfl rfl (Nat.le_of_ble_eq_true rfl) dL_law_304 (fun r1 S1' p1 => ?_)
  refine gm_aload_n g dL_law_307 rfl ?_
  refine lw_call2 (rest := [.int r1]) G (m_sorted hN hF2 K.1) wLX2_sorted rfl npX2_sorted rfl rfl rfl (Nat.le_of_ble_eq_true rfl) dL_law_308 (fun r2 S2' p2 => ?_)
  obtain ⟨er, hV⟩ : r1 = r2 ∧ lw_sm N S1' S2' := by
    obtain ⟨G1, c, e1, f1, hc, q1⟩ := p1
    obtain ⟨G2, e2, f2, q2⟩ := p2
    exact ⟨by rw [q1, q2, sorted_eq hN K hc], C, lo, hi, gv, G1, G2, hN, f1, f2, e1, e2⟩
  exact gm_icmp_eq g 431 dL_law_311 (by decide) (fun _ => kont _ _ hV) (fun h => absurd er h)
set_option maxHeartbeats 4000000 in
theorem l_ranks {Y : lY} {E : gE} {b L i : Nat} {xs : Nat → Int32} {N C : Nat} {lo hi : Nat → Nat} {gv : Nat → Int32} {F1 F2 : Nat → Nat → Int32} (G : lw_G Y E b L xs) (hL : L ≤ 193) (hi2 : i + 2 < L) (hN : ok_net N C lo hi) (hF1 : xF F1 N C lo hi gv) (hF2 : mF F2 N C lo hi gv) (K : KF N) (kont : ∀ S1' S2' : ob_S, lw_sm N S1' S2' → gm E 4 (lw_I Y S1' S2') [.ref b, .ref (l_h1 Y), .ref (l_h2 Y), .int (nI i)] 431 []) : gm E 4 (lw_I Y (nI N, nI C, F1) (nI N, nI C, F2)) [.ref b, .ref (l_h1 Y), .ref (l_h2 Y), .int (nI i)] 316 [] := by
  have g := G.1
  refine gm_aload_n g dL_law_316 rfl ?_
  refine gm_aload_n g dL_law_317 rfl ?_
  refine gm_iload_n g dL_law_318 rfl ?_
  refine gm_iconst (v := nI 1) g dL_law_319 (by decide) ?_
  refine gN_iadd g dL_law_320 ?_
  refine lw_sld G hL (by omega) dL_law_321 ?_
  refine gm_aload_n g dL_law_322 rfl ?_
  refine gm_iload_n g dL_law_323 rfl ?_
  refine gm_iconst (v := nI 2) g dL_law_324 (by decide) ?_
  refine gN_iadd g dL_law_325 ?_
  refine lw_sld G hL (by omega) dL_law_326 ?_
  refine lw_call1 (rest := []) G (x_ranks hN hF1 (xs (i + 1)) (xs (i + 2))) wLX1_ranks rfl npX1_ranks rfl rfl rfl (Nat.le_of_ble_eq_true rfl) dL_law_327 (fun r1 S1' p1 => ?_)
  refine gm_aload_n g dL_law_330 rfl ?_
  refine gm_aload_n g dL_law_331 rfl ?_
  refine gm_iload_n g dL_law_332 rfl ?_
  refine gm_iconst (v := nI 1) g dL_law_333 (by decide) ?_
  refine gN_iadd g dL_law_334 ?_
  refine lw_sld G hL (by omega) dL_law_335 ?_
  refine gm_aload_n g dL_law_336 rfl ?_
  refine gm_iload_n g dL_law_337 rfl ?_
  refine gm_iconst (v := nI 2) g dL_law_338 (by decide) ?_
  refine gN_iadd g dL_law_339 ?_
  refine lw_sld G hL (by omega) dL_law_340 ?_
  refine lw_call2 (rest := [.int r1]) G (m_ranks hN hF2 K.1 (xs (i + 1)) (xs (i + 2))) wLX2_ranks rfl npX2_ranks rfl rfl rfl (Nat.le_of_ble_eq_true rfl) dL_law_341 (fun r2 S2' p2 => ?_)
  obtain ⟨er, hV⟩ : r1 = r2 ∧ lw_sm N S1' S2' := by
    obtain ⟨G1, e1, f1, q1⟩ := p1
    obtain ⟨G2, e2, f2, q2⟩ := p2
    refine ⟨?_, C, lo, hi, gv, G1, G2, hN, f1, f2, e1, e2⟩
    have hN7 := hN.2.1
    by_cases bad : bw (nI N) (xs (i + 1)) ≠ 0 ∨ xs (i + 2) < nI 1 ∨ ¬ xs (i + 2) ≤ nI N
    · rw [if_pos bad] at q1 q2
      exact q1.trans q2.symm
    · rw [if_neg bad] at q1 q2
      have b0 : bw (nI N) (xs (i + 1)) = 0 := Classical.byContradiction fun h => bad (Or.inl h)
      have b1 : ¬ xs (i + 2) < nI 1 := fun h => bad (Or.inr (Or.inl h))
      have b2 : xs (i + 2) ≤ nI N := Classical.byContradiction fun h => bad (Or.inr (Or.inr h))
      obtain ⟨a, ha, ea⟩ := bw_in (by omega) b0
      obtain ⟨c, c1, c2, ec⟩ := rk_in hN7 b1 b2
      rw [ea, ec, nI_clamp (by omega), nI_clamp (by omega)] at q1 q2
      rw [q1, q2, ranks_eq hN K ha c1 c2]
  exact gm_icmp_eq g 431 dL_law_344 (by decide) (fun _ => kont _ _ hV) (fun h => absurd er h)
set_option maxHeartbeats 4000000 in
theorem l_works {Y : lY} {E : gE} {b L i : Nat} {xs : Nat → Int32} {N C : Nat} {lo hi : Nat → Nat} {gv : Nat → Int32} {F1 F2 : Nat → Nat → Int32} (G : lw_G Y E b L xs) (hL : L ≤ 193) (hi2 : i + 2 < L) (hN : ok_net N C lo hi) (hF1 : xF F1 N C lo hi gv) (hF2 : mF F2 N C lo hi gv) (K : KF N) (kont : ∀ S1' S2' : ob_S, lw_sm N S1' S2' → gm E 4 (lw_I Y S1' S2') [.ref b, .ref (l_h1 Y), .ref (l_h2 Y), .int (nI i)] 431 []) : gm E 4 (lw_I Y (nI N, nI C, F1) (nI N, nI C, F2)) [.ref b, .ref (l_h1 Y), .ref (l_h2 Y), .int (nI i)] 349 [] := by
  have g := G.1
  refine gm_aload_n g dL_law_349 rfl ?_
  refine gm_aload_n g dL_law_350 rfl ?_
  refine gm_iload_n g dL_law_351 rfl ?_
  refine gm_iconst (v := nI 1) g dL_law_352 (by decide) ?_
  refine gN_iadd g dL_law_353 ?_
  refine lw_sld G hL (by omega) dL_law_354 ?_
  refine lw_call1 (rest := []) G (x_works hN hF1 (xs (i + 1))) wLX1_works rfl npX1_works rfl rfl rfl (Nat.le_of_ble_eq_true rfl) dL_law_355 (fun r1 S1' p1 => ?_)
  refine gm_aload_n g dL_law_358 rfl ?_
  refine gm_aload_n g dL_law_359 rfl ?_
  refine gm_iload_n g dL_law_360 rfl ?_
  refine gm_iconst (v := nI 1) g dL_law_361 (by decide) ?_
  refine gN_iadd g dL_law_362 ?_
  refine lw_sld G hL (by omega) dL_law_363 ?_
  refine lw_call2 (rest := [.int r1]) G (m_works hN hF2 K.1 (xs (i + 1))) wLX2_works rfl npX2_works rfl rfl rfl (Nat.le_of_ble_eq_true rfl) dL_law_364 (fun r2 S2' p2 => ?_)
  obtain ⟨er, hV⟩ : r1 = r2 ∧ lw_sm N S1' S2' := by
    obtain ⟨G1, e1, f1, q1⟩ := p1
    obtain ⟨G2, e2, f2, q2⟩ := p2
    refine ⟨?_, C, lo, hi, gv, G1, G2, hN, f1, f2, e1, e2⟩
    have hN7 := hN.2.1
    have hC24 := hN.2.2.1
    by_cases bad : bw (nI C) (xs (i + 1)) ≠ 0
    · rw [if_pos bad] at q1 q2
      exact q1.trans q2.symm
    · rw [if_neg bad] at q1 q2
      have b0 : bw (nI C) (xs (i + 1)) = 0 := Classical.byContradiction fun h => bad h
      obtain ⟨a, ha, ea⟩ := bw_in (by omega) b0
      rw [ea, nI_clamp (by omega)] at q1 q2
      have hn := hN.2.2.2 a ha
      rw [q1, q2, less_eq hN K (Nat.le_of_lt ha) hn.2.1 hn.1]
  exact gm_icmp_eq g 431 dL_law_367 (by decide) (fun _ => kont _ _ hV) (fun h => absurd er h)
set_option maxHeartbeats 4000000 in
theorem l_below {Y : lY} {E : gE} {b L i : Nat} {xs : Nat → Int32} {N C : Nat} {lo hi : Nat → Nat} {gv : Nat → Int32} {F1 F2 : Nat → Nat → Int32} (G : lw_G Y E b L xs) (hL : L ≤ 193) (hi2 : i + 2 < L) (hN : ok_net N C lo hi) (hF1 : xF F1 N C lo hi gv) (hF2 : mF F2 N C lo hi gv) (K : KF N) (kont : ∀ S1' S2' : ob_S, lw_sm N S1' S2' → gm E 4 (lw_I Y S1' S2') [.ref b, .ref (l_h1 Y), .ref (l_h2 Y), .int (nI i)] 431 []) : gm E 4 (lw_I Y (nI N, nI C, F1) (nI N, nI C, F2)) [.ref b, .ref (l_h1 Y), .ref (l_h2 Y), .int (nI i)] 372 [] := by
  have g := G.1
  refine gm_aload_n g dL_law_372 rfl ?_
  refine gm_aload_n g dL_law_373 rfl ?_
  refine gm_iload_n g dL_law_374 rfl ?_
  refine gm_iconst (v := nI 1) g dL_law_375 (by decide) ?_
  refine gN_iadd g dL_law_376 ?_
  refine lw_sld G hL (by omega) dL_law_377 ?_
  refine gm_aload_n g dL_law_378 rfl ?_
  refine gm_iload_n g dL_law_379 rfl ?_
  refine gm_iconst (v := nI 2) g dL_law_380 (by decide) ?_
  refine gN_iadd g dL_law_381 ?_
  refine lw_sld G hL (by omega) dL_law_382 ?_
  refine lw_call1 (rest := []) G (x_below hN hF1 (xs (i + 1)) (xs (i + 2))) wLX1_below rfl npX1_below rfl rfl rfl (Nat.le_of_ble_eq_true rfl) dL_law_383 (fun r1 S1' p1 => ?_)
  refine gm_aload_n g dL_law_386 rfl ?_
  refine gm_aload_n g dL_law_387 rfl ?_
  refine gm_iload_n g dL_law_388 rfl ?_
  refine gm_iconst (v := nI 1) g dL_law_389 (by decide) ?_
  refine gN_iadd g dL_law_390 ?_
  refine lw_sld G hL (by omega) dL_law_391 ?_
  refine gm_aload_n g dL_law_392 rfl ?_
  refine gm_iload_n g dL_law_393 rfl ?_
  refine gm_iconst (v := nI 2) g dL_law_394 (by decide) ?_
  refine gN_iadd g dL_law_395 ?_
  refine lw_sld G hL (by omega) dL_law_396 ?_
  refine lw_call2 (rest := [.int r1]) G (m_below hN hF2 K.1 (xs (i + 1)) (xs (i + 2))) wLX2_below rfl npX2_below rfl rfl rfl (Nat.le_of_ble_eq_true rfl) dL_law_397 (fun r2 S2' p2 => ?_)
  obtain ⟨er, hV⟩ : r1 = r2 ∧ lw_sm N S1' S2' := by
    obtain ⟨G1, e1, f1, q1⟩ := p1
    obtain ⟨G2, e2, f2, q2⟩ := p2
    refine ⟨?_, C, lo, hi, gv, G1, G2, hN, f1, f2, e1, e2⟩
    have hN7 := hN.2.1
    by_cases bad : bw (nI N) (xs (i + 1)) ≠ 0 ∨ bw (nI N) (xs (i + 2)) ≠ 0
    · rw [if_pos bad] at q1 q2
      exact q1.trans q2.symm
    · rw [if_neg bad] at q1 q2
      have b0 : bw (nI N) (xs (i + 1)) = 0 := Classical.byContradiction fun h => bad (Or.inl h)
      have b1 : bw (nI N) (xs (i + 2)) = 0 := Classical.byContradiction fun h => bad (Or.inr h)
      obtain ⟨a, ha, ea⟩ := bw_in (by omega) b0
      obtain ⟨c, hc, ec⟩ := bw_in (by omega) b1
      rw [ea, ec, nI_clamp (by omega), nI_clamp (by omega)] at q1 q2
      rw [q1, q2, less_eq hN K (Nat.le_refl C) ha hc]
  exact gm_icmp_eq g 431 dL_law_400 (by decide) (fun _ => kont _ _ hV) (fun h => absurd er h)
set_option maxHeartbeats 4000000 in
theorem l_idle {Y : lY} {E : gE} {b L i : Nat} {xs : Nat → Int32} {N C : Nat} {lo hi : Nat → Nat} {gv : Nat → Int32} {F1 F2 : Nat → Nat → Int32} (G : lw_G Y E b L xs) (hL : L ≤ 193) (hi2 : i + 2 < L) (hN : ok_net N C lo hi) (hF1 : xF F1 N C lo hi gv) (hF2 : mF F2 N C lo hi gv) (K : KF N) (kont : ∀ S1' S2' : ob_S, lw_sm N S1' S2' → gm E 4 (lw_I Y S1' S2') [.ref b, .ref (l_h1 Y), .ref (l_h2 Y), .int (nI i)] 431 []) : gm E 4 (lw_I Y (nI N, nI C, F1) (nI N, nI C, F2)) [.ref b, .ref (l_h1 Y), .ref (l_h2 Y), .int (nI i)] 405 [] := by
  have g := G.1
  refine gm_aload_n g dL_law_405 rfl ?_
  refine lw_call1 (rest := []) G (x_idle hN hF1) wLX1_idle rfl npX1_idle rfl rfl rfl (Nat.le_of_ble_eq_true rfl) dL_law_406 (fun r1 S1' p1 => ?_)
  refine gm_aload_n g dL_law_409 rfl ?_
  refine lw_call2 (rest := [.int r1]) G (m_idle hN hF2 K.1) wLX2_idle rfl npX2_idle rfl rfl rfl (Nat.le_of_ble_eq_true rfl) dL_law_410 (fun r2 S2' p2 => ?_)
  obtain ⟨er, hV⟩ : r1 = r2 ∧ lw_sm N S1' S2' := by
    obtain ⟨G1, e1, f1, q1⟩ := p1
    obtain ⟨G2, e2, f2, q2⟩ := p2
    exact ⟨by rw [q1, q2, cntq_congr C (fun k _ => idle_eq hN K k)], C, lo, hi, gv, G1, G2, hN, f1, f2, e1, e2⟩
  exact gm_icmp_eq g 431 dL_law_413 (by decide) (fun _ => kont _ _ hV) (fun h => absurd er h)
set_option maxHeartbeats 4000000 in
theorem l_rounds {Y : lY} {E : gE} {b L i : Nat} {xs : Nat → Int32} {N C : Nat} {lo hi : Nat → Nat} {gv : Nat → Int32} {F1 F2 : Nat → Nat → Int32} (G : lw_G Y E b L xs) (hL : L ≤ 193) (hi2 : i + 2 < L) (hN : ok_net N C lo hi) (hF1 : xF F1 N C lo hi gv) (hF2 : mF F2 N C lo hi gv) (K : KF N) (kont : ∀ S1' S2' : ob_S, lw_sm N S1' S2' → gm E 4 (lw_I Y S1' S2') [.ref b, .ref (l_h1 Y), .ref (l_h2 Y), .int (nI i)] 431 []) : gm E 4 (lw_I Y (nI N, nI C, F1) (nI N, nI C, F2)) [.ref b, .ref (l_h1 Y), .ref (l_h2 Y), .int (nI i)] 418 [] := by
  have g := G.1
  refine gm_aload_n g dL_law_418 rfl ?_
  refine lw_call1 (rest := []) G (x_rounds hN hF1) wLX1_rounds rfl npX1_rounds rfl rfl rfl (Nat.le_of_ble_eq_true rfl) dL_law_419 (fun r1 S1' p1 => ?_)
  refine gm_aload_n g dL_law_422 rfl ?_
  refine lw_call2 (rest := [.int r1]) G (m_rounds hN hF2) wLX2_rounds rfl npX2_rounds rfl rfl rfl (Nat.le_of_ble_eq_true rfl) dL_law_423 (fun r2 S2' p2 => ?_)
  obtain ⟨er, hV⟩ : r1 = r2 ∧ lw_sm N S1' S2' := by
    obtain ⟨G1, e1, f1, q1⟩ := p1
    obtain ⟨G2, e2, f2, q2⟩ := p2
    exact ⟨q1.trans q2.symm, C, lo, hi, gv, G1, G2, hN, f1, f2, e1, e2⟩
  exact gm_icmp_eq g 431 dL_law_426 (by decide) (fun _ => kont _ _ hV) (fun h => absurd er h)
end
section
/-! what is left to the kernel, cheaper: no count of a long list, no equality of long lists but step by step -/
set_option maxRecDepth 100000
def leq : List Nat → List Nat → Bool
  | [], [] => true
  | a :: r, b :: t => match Nat.beq a b with
    | true => leq r t
    | false => false
  | _, _ => false
theorem leq_eq : ∀ l1 l2, leq l1 l2 = true → l1 = l2 := by
  intro l1
  induction l1 with
  | nil =>
    intro l2 h
    cases l2 with
    | nil => rfl
    | cons b t => cases h
  | cons a r ih =>
    intro l2 h
    cases l2 with
    | nil => cases h
    | cons b t =>
      have h : (match Nat.beq a b with | true => leq r t | false => false) = true := h
      cases e : Nat.beq a b with
      | false => rw [e] at h; cases h
      | true =>
        rw [e] at h
        rw [Nat.eq_of_beq_eq_true e, ih t h]
theorem gen_len : ∀ (m : Nat) (av : List Nat) (acc sc : Nat), av.length = m → (gen m av acc sc).length = fac m := by
  intro m
  induction m with
  | zero => intro av acc sc _; rfl
  | succ m ih =>
    intro av acc sc h
    rw [← lsum_len]
    show lsum _ (av.flatMap _) = _
    rw [lsum_flat]
    have e : ∀ a ∈ av, lsum (fun _ => 1) (gen m (av.erase a) (acc + a * sc) (sc * 8)) = fac m := by
      intro a ha
      rw [lsum_len]
      exact ih _ _ _ (by rw [List.length_erase_of_mem ha]; omega)
    rw [lsum_congr e, lsum_const, h, Nat.mul_comm]; rfl
theorem fac_5042 : ∀ N, N < 8 → fac N < 5042 := by decide
theorem kk_mem {N : Nat} (h : (gen N (ord0 N) 0 1).all (fun e => ick N (dec N e)) = true) : ∀ e ∈ gen N (ord0 N) 0 1, ick N (dec N e) = true := fun e he => List.all_eq_true.mp h e he
def KQ (N : Nat) : Prop := gck N (gen N (ord0 N) 0 1) = true ∧ ((gen N (ord0 N) 0 1).head? = some (gen N (ord0 N) 0 1).head! ∧ dec N (gen N (ord0 N) 0 1).head! = ord0 N) ∧ (∀ e ∈ gen N (ord0 N) 0 1, ick N (dec N e) = true) ∧ leq (mso Nat.ble 13 ((gen N (ord0 N) 0 1).map (fun e => keyL N (dec N e) 0))) (kl N N (2 ^ N - 1) 0) = true ∧ mso (fun a b => Nat.ble a.1 b.1) 9 (toW N N [(2 ^ N - 1, 1)]) = plx N
theorem KQ_KF {N : Nat} (hN : N ≤ 7) (h : KQ N) : KF N := by
  obtain ⟨h1, ⟨h2, h3⟩, h4, h5, h6⟩ := h
  exact KK_KF hN ⟨h1, by rw [gen_len N _ _ _ (ord0_len N)]; exact fac_5042 N (by omega), h2, h3, h4, leq_eq _ _ h5, h6⟩
end
section
/-! the kernel's counts, up to 6 wires -/
set_option maxRecDepth 100000
theorem KQ_2 : KQ 2 := ⟨by decide +kernel, ⟨by decide +kernel, by decide +kernel⟩, kk_mem (by decide +kernel), by decide +kernel, by decide +kernel⟩
theorem KQ_3 : KQ 3 := ⟨by decide +kernel, ⟨by decide +kernel, by decide +kernel⟩, kk_mem (by decide +kernel), by decide +kernel, by decide +kernel⟩
theorem KQ_4 : KQ 4 := ⟨by decide +kernel, ⟨by decide +kernel, by decide +kernel⟩, kk_mem (by decide +kernel), by decide +kernel, by decide +kernel⟩
theorem KQ_5 : KQ 5 := ⟨by decide +kernel, ⟨by decide +kernel, by decide +kernel⟩, kk_mem (by decide +kernel), by decide +kernel, by decide +kernel⟩
theorem KQ_6 : KQ 6 := ⟨by decide +kernel, ⟨by decide +kernel, by decide +kernel⟩, kk_mem (by decide +kernel), by decide +kernel, by decide +kernel⟩
end
section
/-! the kernel counts, 7 wires: each order's chain -/
set_option maxRecDepth 100000
theorem k7_1 : (gen 6 ((ord0 7).erase 1) (0 + 1 * 1) (1 * 8)).all (fun e => ick 7 (dec 7 e)) = true := by decide +kernel
theorem k7_2 : (gen 6 ((ord0 7).erase 2) (0 + 2 * 1) (1 * 8)).all (fun e => ick 7 (dec 7 e)) = true := by decide +kernel
theorem k7_3 : (gen 6 ((ord0 7).erase 3) (0 + 3 * 1) (1 * 8)).all (fun e => ick 7 (dec 7 e)) = true := by decide +kernel
theorem k7_4 : (gen 6 ((ord0 7).erase 4) (0 + 4 * 1) (1 * 8)).all (fun e => ick 7 (dec 7 e)) = true := by decide +kernel
theorem k7_5 : (gen 6 ((ord0 7).erase 5) (0 + 5 * 1) (1 * 8)).all (fun e => ick 7 (dec 7 e)) = true := by decide +kernel
theorem k7_6 : (gen 6 ((ord0 7).erase 6) (0 + 6 * 1) (1 * 8)).all (fun e => ick 7 (dec 7 e)) = true := by decide +kernel
theorem k7_7 : (gen 6 ((ord0 7).erase 7) (0 + 7 * 1) (1 * 8)).all (fun e => ick 7 (dec 7 e)) = true := by decide +kernel
theorem k7_t : mso (fun a b => Nat.ble a.1 b.1) 9 (toW 7 7 [(2 ^ 7 - 1, 1)]) = plx 7 := by decide +kernel
theorem k7_h : (gen 7 (ord0 7) 0 1).head? = some (gen 7 (ord0 7) 0 1).head! := by decide +kernel
theorem k7_d : dec 7 (gen 7 (ord0 7) 0 1).head! = ord0 7 := by decide +kernel
theorem k7_i : ∀ e ∈ gen 7 (ord0 7) 0 1, ick 7 (dec 7 e) = true := by
  intro e he
  have he : e ∈ (ord0 7).flatMap (fun a => gen 6 ((ord0 7).erase a) (0 + a * 1) (1 * 8)) := he
  obtain ⟨a, ha, hq⟩ := List.mem_flatMap.mp he
  have ho : ord0 7 = [1, 2, 3, 4, 5, 6, 7] := rfl
  have ha2 : a = 1 ∨ a = 2 ∨ a = 3 ∨ a = 4 ∨ a = 5 ∨ a = 6 ∨ a = 7 := by
    rw [ho] at ha
    simpa using ha
  rcases ha2 with rfl | rfl | rfl | rfl | rfl | rfl | rfl
  · exact List.all_eq_true.mp k7_1 e hq
  · exact List.all_eq_true.mp k7_2 e hq
  · exact List.all_eq_true.mp k7_3 e hq
  · exact List.all_eq_true.mp k7_4 e hq
  · exact List.all_eq_true.mp k7_5 e hq
  · exact List.all_eq_true.mp k7_6 e hq
  · exact List.all_eq_true.mp k7_7 e hq
end
section
/-! the kernel counts, 7 wires: the next order of each; all chains -/
set_option maxRecDepth 100000
theorem k7_g : gck 7 (gen 7 (ord0 7) 0 1) = true := by decide +kernel
end
section
/-! the kernel's counts, 7 wires: every chain once -/
set_option maxRecDepth 100000
theorem k7_s : leq (mso Nat.ble 13 ((gen 7 (ord0 7) 0 1).map (fun e => keyL 7 (dec 7 e) 0))) (kl 7 7 (2 ^ 7 - 1) 0) = true := by decide +kernel
theorem KQ_7 : KQ 7 := ⟨k7_g, ⟨k7_h, k7_d⟩, k7_i, k7_s, k7_t⟩
theorem KF_all {N : Nat} (h2 : 2 ≤ N) (h7 : N ≤ 7) : KF N := by
  have h : N = 2 ∨ N = 3 ∨ N = 4 ∨ N = 5 ∨ N = 6 ∨ N = 7 := by omega
  rcases h with rfl | rfl | rfl | rfl | rfl | rfl
  · exact KQ_KF (by decide) KQ_2
  · exact KQ_KF (by decide) KQ_3
  · exact KQ_KF (by decide) KQ_4
  · exact KQ_KF (by decide) KQ_5
  · exact KQ_KF (by decide) KQ_6
  · exact KQ_KF (by decide) KQ_7
end
section
/-! THE CLAIM OUT OF ONE WALK OF THE LAW'S BODY. Your part is whole_start (and what it stands on); all else here is the same for every law, but numbers. -/
def R_law : String := "ComparatorNetLaw"
def lw_P (b : Addr) (xs : List Int32) (args : Array Value) (s : State) : Prop := args = #[.ref b] ∧ s.IntsAt b xs ∧ xs.length ≤ 193 ∧ (Jvm.Cond.and given_1 narrow_1).before args s = true
def lw_Q (_ : Array Value) (s : State) (o : Outcome) (t : State) : Prop := o = .returned (some (.int 1)) ∧ Framed s o t [] 600000 7290000
def lw_Z (below : List Frame) (a : Array Value) (s : State) : State → Prop := fun t => ∃ o, t.status = .running ∧ Ended t below o ∧ lw_Q a s o t
/-- the law's own end, with 1 on the stack, nothing written that was there before, its room as the claim has it -/
theorem lw_ret {p : Program} {l : Launch} {e : Env} {s : State} {m : MethodId} {below : List Frame} {meth : Method} {c : Code} {b : Nat} (hx : p.tables.exec = Jvm.exec) (hb : c.code = code) (hr : meth.sig.returnType = ret) (hlocks : meth.locks = false) {pc : Nat} {H : Heap} {ls : Array Slot} (hdg : decode code pc = .ok (.ireturn, 1)) : W p l e room_1 s m #[Value.ref b] below meth c H [] 600000 7290000 (lw_Z below #[Value.ref b] s) (F0 m pc ls [.int 1]) := by
  intro T hT X
  obtain ⟨fs, hret, hrun, hended, hW, hframe⟩ := X.leave (v := some (.int 1)) (hlocks := hlocks) (fun h => by rw [hr] at h; cases h)
  have hmeth' : T.vm.method? m = some meth := X.method'
  refine ⟨T.setFrames fs, ?_, .returned (some (.int 1)), hrun, hended, rfl, ⟨_, rfl⟩, hW, hframe⟩
  jvm_step X.here [X.here.top, hx, hb, hdg, hmeth', hr, ret, narrow_b1]
  (try refine ⟨rfl, ?_⟩); (try refine ⟨rfl, ?_⟩)
  first | (intro acts; rw [hret _ acts rfl rfl rfl]) | rw [hret _ _ rfl rfl rfl]
  exact Steps.refl _
/-- what holds at the law's entry: the machine, the code, the tables' words (any of lw_tbl by 'hts w (by decide +kernel)'), the script of L ints xs at the cell b, what the Statement gives of the start (any of its parts by flat_of_before) -/
def lw_At (p : Program) (s : State) (m : MethodId) (meth : Method) (c : Code) (b L : Nat) (xs : Nat → Int32) : Prop :=
  p.tables.exec = Jvm.exec ∧ c.code = code ∧ meth.sig.returnType = ret ∧ c.maxLocals = 4 ∧ s.vm.findClass R_law = some m.cls ∧ (∀ w ∈ lw_tbl, w.before #[Value.ref b] s = true) ∧ va_X b L xs s s.heap ∧ b < s.heap.size ∧ meth.locks = false ∧ (Jvm.Cond.and given_1 narrow_1).before #[Value.ref b] s = true
set_option maxRecDepth 100000
set_option maxHeartbeats 4000000 in
/-- the law's loop, at its head -/
theorem lw_loop {Y : lY} {E : gE} {b L N : Nat} {xs : Nat → Int32} (G : lw_G Y E b L xs) (hL : L ≤ 193) (K : KF N) (ret : ∀ (S1 S2 : ob_S) (lv : List Value), gm E 4 (lw_I Y S1 S2) lv 438 [.int 1]) : ∀ (n i : Nat) (S1 S2 : ob_S), L < i + n → i ≤ 200 → lw_sm N S1 S2 → gm E 4 (lw_I Y S1 S2) [.ref b, .ref (l_h1 Y), .ref (l_h2 Y), .int (nI i)] 28 [] := by
  have g := G.1
  intro n
  induction n with
  | zero =>
    intro i S1 S2 hn hi hV
    refine gm_iload_n g dL_law_28 rfl ?_
    refine gm_aload_n g dL_law_29 rfl ?_
    refine lw_slen G dL_law_30 ?_
    refine gm_iconst (v := nI 3) g dL_law_31 (by decide) ?_
    refine gm_isub (v := nI L - nI 3) g dL_law_32 rfl ?_
    refine gm_icmp_gt g 437 dL_law_33 (by decide) (fun c => ?_) (fun c => ?_)
    · refine gm_iconst (v := 1) g dL_law_437 (by decide) ?_
      exact ret S1 S2 _
    · have := lw_end hL (by omega) c
      omega
  | succ n ih =>
    intro i S1 S2 hn hi hV
    refine gm_iload_n g dL_law_28 rfl ?_
    refine gm_aload_n g dL_law_29 rfl ?_
    refine lw_slen G dL_law_30 ?_
    refine gm_iconst (v := nI 3) g dL_law_31 (by decide) ?_
    refine gm_isub (v := nI L - nI 3) g dL_law_32 rfl ?_
    refine gm_icmp_gt g 437 dL_law_33 (by decide) (fun c => ?_) (fun c => ?_)
    · refine gm_iconst (v := 1) g dL_law_437 (by decide) ?_
      exact ret S1 S2 _
    · have hi2 := lw_end hL (by omega) c
      have kont : ∀ S1' S2' : ob_S, lw_sm N S1' S2' → gm E 4 (lw_I Y S1' S2') [.ref b, .ref (l_h1 Y), .ref (l_h2 Y), .int (nI i)] 431 [] := by
        intro S1' S2' hV'
        refine gm_iinc (v := nI (i + 3)) (lv' := [.ref b, .ref (l_h1 Y), .ref (l_h2 Y), .int (nI (i + 3))]) g dL_law_431 rfl (nI_add i 3) rfl rfl ?_
        refine gm_goto g 28 dL_law_434 (by decide) ?_
        exact ih (i + 3) S1' S2' (by omega) (by omega) hV'
      obtain ⟨C, lo, hh, gv, F1, F2, hN, hF1, hF2, e1, e2⟩ := id hV
      subst e1
      subst e2
      refine gm_aload_n g dL_law_36 rfl ?_
      refine gm_iload_n g dL_law_37 rfl ?_
      refine lw_sld G hL (by omega) dL_law_38 ?_
      refine gm_bipush (v := nI 15) g dL_law_39 (by decide) ?_
      refine gm_iand (v := xs i &&& nI 15) g dL_law_41 rfl ?_
      obtain ⟨k, hk, ek⟩ := and15 (xs i)
      rw [ek]
      have h16 : k = 0 ∨ k = 1 ∨ k = 2 ∨ k = 3 ∨ k = 4 ∨ k = 5 ∨ k = 6 ∨ k = 7 ∨ k = 8 ∨ k = 9 ∨ k = 10 ∨ k = 11 ∨ k = 12 ∨ k = 13 ∨ k = 14 ∨ k = 15 := by omega
      rcases h16 with rfl | rfl | rfl | rfl | rfl | rfl | rfl | rfl | rfl | rfl | rfl | rfl | rfl | rfl | rfl | rfl
      · refine gm_tableIn (off := 74) g 116 dL_law_42 (by decide) (by decide) (by decide) (by decide) ?_
        exact l_add G hL hi2 hN hF1 hF2 K kont
      · refine gm_tableIn (off := 107) g 149 dL_law_42 (by decide) (by decide) (by decide) (by decide) ?_
        exact l_drop G hL hi2 hN hF1 hF2 K kont
      · refine gm_tableIn (off := 130) g 172 dL_law_42 (by decide) (by decide) (by decide) (by decide) ?_
        exact l_swap G hL hi2 hN hF1 hF2 K kont
      · refine gm_tableIn (off := 153) g 195 dL_law_42 (by decide) (by decide) (by decide) (by decide) ?_
        exact l_turn G hL hi2 hN hF1 hF2 K kont
      · refine gm_tableIn (off := 166) g 208 dL_law_42 (by decide) (by decide) (by decide) (by decide) ?_
        exact l_size G hL hi2 hN hF1 hF2 K kont
      · refine gm_tableIn (off := 179) g 221 dL_law_42 (by decide) (by decide) (by decide) (by decide) ?_
        exact l_input G hL hi2 hN hF1 hF2 K kont
      · refine gm_tableIn (off := 212) g 254 dL_law_42 (by decide) (by decide) (by decide) (by decide) ?_
        exact l_output G hL hi2 hN hF1 hF2 K kont
      · refine gm_tableIn (off := 235) g 277 dL_law_42 (by decide) (by decide) (by decide) (by decide) ?_
        exact l_exchanges G hL hi2 hN hF1 hF2 K kont
      · refine gm_tableIn (off := 248) g 290 dL_law_42 (by decide) (by decide) (by decide) (by decide) ?_
        exact l_sorts G hL hi2 hN hF1 hF2 K kont
      · refine gm_tableIn (off := 261) g 303 dL_law_42 (by decide) (by decide) (by decide) (by decide) ?_
        exact l_sorted G hL hi2 hN hF1 hF2 K kont
      · refine gm_tableIn (off := 274) g 316 dL_law_42 (by decide) (by decide) (by decide) (by decide) ?_
        exact l_ranks G hL hi2 hN hF1 hF2 K kont
      · refine gm_tableIn (off := 307) g 349 dL_law_42 (by decide) (by decide) (by decide) (by decide) ?_
        exact l_works G hL hi2 hN hF1 hF2 K kont
      · refine gm_tableIn (off := 330) g 372 dL_law_42 (by decide) (by decide) (by decide) (by decide) ?_
        exact l_below G hL hi2 hN hF1 hF2 K kont
      · refine gm_tableIn (off := 363) g 405 dL_law_42 (by decide) (by decide) (by decide) (by decide) ?_
        exact l_idle G hL hi2 hN hF1 hF2 K kont
      · refine gm_tableIn (off := 376) g 418 dL_law_42 (by decide) (by decide) (by decide) (by decide) ?_
        exact l_rounds G hL hi2 hN hF1 hF2 K kont
      · refine gm_tableOut g 431 dL_law_42 (by decide) (by decide) ?_
        exact kont _ _ hV
set_option maxHeartbeats 8000000 in
/-- THE LAW, from its entry -/
theorem whole_start {p : Program} {e : Env} {s : State} {m : MethodId} {below : List Frame} {meth : Method} {c : Code} (l : Launch) {b L : Nat} {xs : Nat → Int32} (hL : L ≤ 193) (C0 : lw_At p s m meth c b L xs) : W p l e room_1 s m #[Value.ref b] below meth c s.heap [] 0 0 (lw_Z below #[Value.ref b] s) (entryFrame m ([Value.ref b] : List Value).toArray 4) := by
  obtain ⟨hx, hb, hr, hml, hown, hts0, hX, hbl, hlocks, hgv⟩ := id C0
  have hown : s.vm.findClass RX0 = some m.cls := hown
  have hts : ∀ w ∈ lw_all, w.before #[Value.ref b] s = true := fun w h => hts0 w (lw_all_tbl h)
  have hA : ∀ q : Nat, s.heap.size ≤ q → (fun q : Nat => s.heap.size ≤ q) q := fun _ h => h
  have hbA : ¬ (fun q : Nat => s.heap.size ≤ q) b := Nat.not_le.mpr hbl
  obtain ⟨c0, iS0, hKn0⟩ := u_known (C := RX1) (T := TX1) (N := 11) (n := 11) hts in_X1 (hts _ q22)
  obtain ⟨c1, iS1, hKn1⟩ := u_known (C := RX2) (T := TX2) (N := 9) (n := 9) hts in_X2 (hts _ q166)
  obtain ⟨D, hKc⟩ : ∃ D : va_G, ∀ (k : Nat) (q : vw_C), vwCl[k]? = some q → u_Kn s q.1 q.2.1 q.2.2 (D.1 k) (D.2 k) := by
    refine ⟨(fun k => if k = 0 then c0 else c1, fun k => if k = 0 then iS0 else iS1), ?_⟩
    intro k q hq
    match k, hq with
    | 0, hq => cases hq; exact hKn0
    | 1, hq => cases hq; exact hKn1
    | k + 2, hq => simp [vwCl] at hq
  have hS : va_S (fun q : Nat => s.heap.size ≤ q) s.heap s.heap [] := va_S.rf
  have hK0 : va_K D vwCl [] s := ⟨hKc, fun k q h => by simp at h⟩
  have hP : va_P D vwCl [] s.heap := fun k q h => by simp at h
  have hD : va_D (fun q : Nat => s.heap.size ≤ q) [] := ⟨fun i j p q h => by simp at h, fun k q h => by simp at h⟩
  have hl := lv_entry ([.ref b]) (n := 4) (Nat.le_of_ble_eq_true rfl)
  rw [lg_entry_eq]
  generalize (lg_sl ([.ref b]) ++ List.replicate (4 - (lg_sl ([.ref b])).length) Slot.unset).toArray = ls at hl ⊢
  have hl : lv_has ls 4 [(0, .ref b)] := hl
  refine va_new (ci := 0) (fs := fX1) (C := RX1) (T := TX1) (N := 11) hx hb hts in_X1 tyX1 tyX1_ok hown (hts _ q21) (hts _ q22) (hts _ q19) hK0 hP hD hS hA rfl (fun j hj => by rcases (show j = 0 ∨ j = 1 ∨ j = 2 ∨ j = 3 ∨ j = 4 ∨ j = 5 ∨ j = 6 ∨ j = 7 ∨ j = 8 ∨ j = 9 ∨ j = 10 by omega) with rfl | rfl | rfl | rfl | rfl | rfl | rfl | rfl | rfl | rfl | rfl <;> rfl) (Nat.le_of_ble_eq_true rfl) (Nat.le_of_ble_eq_true rfl) dL_law_0 (fun o1 H hP hD hS => ?_)
  have hP : va_P D vwCl [(o1, .inr (0, fX1))] H := hP
  have hD : va_D (fun q : Nat => s.heap.size ≤ q) [(o1, .inr (0, fX1))] := hD
  refine lv_dup hx hb dL_law_3 rfl ?_
  refine lv_aload_n hx hb dL_law_4 rfl (lv_at hl 0 rfl) ?_
  refine lv_iconst (v := nI 0) hx hb dL_law_5 (by decide) ?_
  refine va_calli (va_runS (As := [.ref b, .int (nI 0)]) (rest := [.ref o1, .ref o1]) ⟨hx, hb, hml, hown, hts⟩ (c_cell l b L xs hL) (va_cwS 2 hts (lw_S q162 q163 q18 q164) rfl rfl rfl (by decide +kernel) ⟨Nat.le_of_ble_eq_true rfl, Nat.le_of_ble_eq_true rfl⟩) ⟨fun a U g mk q => ⟨q.1, va_X.moved (u := U) (U := U.calling g mk a) (Vm.Alike.refl U.vm) q.2⟩, fun U hU hW => ⟨rfl, by show va_X b L xs U U.heap; rw [hU]; exact (va_X.moved hW.alike hX).kept (hS.2.1 b hbl hbA)⟩⟩ rfl rfl hl.1 rfl (lv_room (Nat.le_of_ble_eq_true rfl)) dL_law_6 ⟨Nat.le_of_ble_eq_true rfl, Nat.le_of_ble_eq_true rfl⟩) hS (fun q _ h => False.elim h) (fun q h => False.elim h) (fun r u t H1 locs ht hvm hw1 hB hz1 hk1 hS => ?_)
  have hP : va_P D vwCl [(o1, .inr (0, fX1))] H1 := hP.kept (fun k q hk => hk1 q.1 (hP k q hk).lt (fun h => h))
  have hFc := va_free (wc := [(o1, .inr (0, fX1))]) hD hS hA [0] rfl
  refine va_callv (va_runI (As := [.int r]) (rest := [.ref o1]) ⟨hx, hb, hml, hown, hts⟩ (x_init l D o1 H1.size r) (cwI 1 hts (lw_meth q25) rfl rfl rfl (hts _ q19) (hts _ q23) (hts _ q24) rfl (by decide +kernel) ⟨Nat.le_of_ble_eq_true rfl, Nat.le_of_ble_eq_true rfl⟩) ⟨fun a U g mk q => by obtain ⟨q0, q1, qP, qK, qD⟩ := q; exact ⟨q0, q1, qP, va_K.moved (u := U) (U := U.calling g mk a) (Vm.Alike.refl U.vm) qK, qD⟩, fun U hU hW => ⟨rfl, by rw [hU], by rw [hU]; exact hP, va_K.moved hW.alike hK0, hD.weaken (fun _ _ _ _ => trivial)⟩⟩ rfl rfl hl.1 rfl (lv_room (Nat.le_of_ble_eq_true rfl)) dL_law_9 ⟨Nat.le_of_ble_eq_true rfl, Nat.le_of_ble_eq_true rfl⟩) hS (fun q _ h => hFc q h) hFc (fun u t H2 locs ht hvm hf1 hB hz1 hk1 hS => ?_)
  obtain ⟨cs1, ad1, F1⟩ := u
  obtain ⟨hP1, hK1, hD1⟩ := hB
  rw [ht] at hP1
  have hK1 : va_K D vwCl (ob_ty cs1 0 shX1) s := va_K.moved hvm.symm hK1
  obtain ⟨hP, hD⟩ := va_join (wr := []) (w1 := ob_W K1 cs1 o1 ad1 (nI (nw r), nI 0, F1)) hP hD [0] [] rfl rfl (by decide) (by decide) hk1 hFc hP1 hD1
  have hP : va_P D vwCl (ob_W K1 cs1 o1 ad1 (nI (nw r), nI 0, F1)) H2 := hP
  have hD : va_D (fun q : Nat => s.heap.size ≤ q) (ob_W K1 cs1 o1 ad1 (nI (nw r), nI 0, F1)) := hD
  have hf1 : xF F1 (nw r) 0 z00 z00 g00 := hf1
  refine lv_astore_n (lv' := [(1, .ref o1), (0, .ref b)]) hx hb dL_law_12 rfl hl (by decide) rfl (fun ls hl => ?_)
  refine va_new (ci := 1) (fs := fX2) (C := RX2) (T := TX2) (N := 9) hx hb hts in_X2 tyX2 tyX2_ok hown (hts _ q165) (hts _ q166) (hts _ q20) hK0 hP hD hS hA rfl (fun j hj => by rcases (show j = 0 ∨ j = 1 ∨ j = 2 ∨ j = 3 ∨ j = 4 ∨ j = 5 ∨ j = 6 ∨ j = 7 ∨ j = 8 by omega) with rfl | rfl | rfl | rfl | rfl | rfl | rfl | rfl | rfl <;> rfl) (Nat.le_of_ble_eq_true rfl) (Nat.le_of_ble_eq_true rfl) dL_law_13 (fun o2 H hP hD hS => ?_)
  have hP : va_P D vwCl (ob_W K1 cs1 o1 ad1 (nI (nw r), nI 0, F1) ++ [(o2, .inr (1, fX2))]) H := hP
  have hD : va_D (fun q : Nat => s.heap.size ≤ q) (ob_W K1 cs1 o1 ad1 (nI (nw r), nI 0, F1) ++ [(o2, .inr (1, fX2))]) := hD
  refine lv_dup hx hb dL_law_16 rfl ?_
  refine lv_aload_n hx hb dL_law_17 rfl (lv_at hl 1 rfl) ?_
  refine lv_iconst (v := nI 0) hx hb dL_law_18 (by decide) ?_
  refine va_calli (va_runS (As := [.ref b, .int (nI 0)]) (rest := [.ref o2, .ref o2]) ⟨hx, hb, hml, hown, hts⟩ (c_cell l b L xs hL) (va_cwS 2 hts (lw_S q162 q163 q18 q164) rfl rfl rfl (by decide +kernel) ⟨Nat.le_of_ble_eq_true rfl, Nat.le_of_ble_eq_true rfl⟩) ⟨fun a U g mk q => ⟨q.1, va_X.moved (u := U) (U := U.calling g mk a) (Vm.Alike.refl U.vm) q.2⟩, fun U hU hW => ⟨rfl, by show va_X b L xs U U.heap; rw [hU]; exact (va_X.moved hW.alike hX).kept (hS.2.1 b hbl hbA)⟩⟩ rfl rfl hl.1 rfl (lv_room (Nat.le_of_ble_eq_true rfl)) dL_law_19 ⟨Nat.le_of_ble_eq_true rfl, Nat.le_of_ble_eq_true rfl⟩) hS (fun q _ h => False.elim h) (fun q h => False.elim h) (fun r2 u t H3 locs ht hvm hw2 hB hz1 hk1 hS => ?_)
  have hP : va_P D vwCl (ob_W K1 cs1 o1 ad1 (nI (nw r), nI 0, F1) ++ [(o2, .inr (1, fX2))]) H3 := hP.kept (fun k q hk => hk1 q.1 (hP k q hk).lt (fun h => h))
  have er : r2 = r := hw2.trans hw1.symm
  subst er
  have hPc := hP.sub (ws' := [(o2, .inr (1, fX2))]) [10] rfl
  have hDc := hD.sub (ws' := [(o2, .inr (1, fX2))]) [10] (by decide) rfl
  have hFc := va_free (wc := [(o2, .inr (1, fX2))]) hD hS hA [10] rfl
  refine va_callv (va_runI (As := [.int r2]) (rest := [.ref o2]) ⟨hx, hb, hml, hown, hts⟩ (m_init l D o2 H3.size r2) (cwI 1 hts (lw_meth q169) rfl rfl rfl (hts _ q20) (hts _ q167) (hts _ q168) rfl (by decide +kernel) ⟨Nat.le_of_ble_eq_true rfl, Nat.le_of_ble_eq_true rfl⟩) ⟨fun a U g mk q => by obtain ⟨q0, q1, qP, qK, qD⟩ := q; exact ⟨q0, q1, qP, va_K.moved (u := U) (U := U.calling g mk a) (Vm.Alike.refl U.vm) qK, qD⟩, fun U hU hW => ⟨rfl, by rw [hU], by rw [hU]; exact hPc, va_K.moved hW.alike hK0, hDc.weaken (fun _ _ _ _ => trivial)⟩⟩ rfl rfl hl.1 rfl (lv_room (Nat.le_of_ble_eq_true rfl)) dL_law_22 ⟨Nat.le_of_ble_eq_true rfl, Nat.le_of_ble_eq_true rfl⟩) hS (fun q _ h => hFc q h) hFc (fun u t H4 locs ht hvm hf2 hB hz1 hk1 hS => ?_)
  obtain ⟨cs2, ad2, F2⟩ := u
  obtain ⟨hP2, hK2, hD2⟩ := hB
  rw [ht] at hP2
  have hK2 : va_K D vwCl (ob_ty cs2 0 shX2) s := va_K.moved hvm.symm hK2
  obtain ⟨hP, hD⟩ := va_join (wr := ob_W K1 cs1 o1 ad1 (nI (nw r2), nI 0, F1)) (w1 := ob_W K2 cs2 o2 ad2 (nI (nw r2), nI 0, F2)) hP hD [10] [0, 1, 2, 3, 4, 5, 6, 7, 8, 9] rfl rfl (by decide) (by decide) hk1 hFc hP2 hD2
  have hf2 : mF F2 (nw r2) 0 z00 z00 g00 := hf2
  refine W.widen (k := 600000) (n := 7290000) (by omega) (by omega) ?_
  refine lv_astore_n (lv' := [(2, .ref o2), (1, .ref o1), (0, .ref b)]) hx hb dL_law_25 rfl hl (by decide) rfl (fun ls hl => ?_)
  refine lv_iconst (v := nI 1) hx hb dL_law_26 (by decide) ?_
  refine lv_istore_n (lv' := [(3, .int (nI 1)), (2, .ref o2), (1, .ref o1), (0, .ref b)]) hx hb dL_law_27 rfl hl (by decide) rfl (fun ls hl => ?_)
  have hl : lv_has ls 4 (ob_lv 0 [.ref b, .ref o1, .ref o2, .int (nI 1)]) := lv_sub hl [3, 2, 1, 0] rfl
  refine lw_loop (E := (p, l, e, room_1, s, m, #[Value.ref b], below, meth, c, 600000, 7290000, lw_Z below #[Value.ref b] s)) (Y := (D, cs1, o1, ad1, cs2, o2, ad2, s.heap)) (b := b) (L := L) (N := nw r2) (xs := xs) ⟨⟨hx, hb, hml⟩, rfl, hown, hts, hK1.app hK2, rfl, rfl, rfl, hX, hbl⟩ hL (KF_all (nw_in r2).1 (nw_in r2).2) ?_ L 1 (nI (nw r2), nI 0, F1) (nI (nw r2), nI 0, F2) (by omega) (by decide) ⟨0, z00, z00, g00, F1, F2, ok_00 (nw_in r2).1 (nw_in r2).2, hf1, hf2, rfl, rfl⟩ H4 locs ls ⟨hP, hD, hS⟩ hl
  intro S1 S2 lv H locs ls hI hl
  exact va_forget (fun q hq => hI.2.2.2.2 q hq) (lw_ret hx hb hr hlocks dL_law_438)
end
section
set_option maxRecDepth 100000
set_option maxHeartbeats 4000000 in
theorem lw_walk (l : Launch) (b : Addr) (xs : List Int32) : MetFree l x (headSpec (Jvm.Cond.code x code maxLocals ret :: tables_1) room_1) (lw_P b xs) (fun _ _ _ _ _ => True) lw_Q := by
  refine MetFree.of_bodyS (code := code) (maxLocals := maxLocals) (ret := ret) (by decide) ?_ ?_
  · intro args s m h hn
    obtain ⟨meth, c, h1, h2, h3, h4, h5, h6, -, -⟩ := Cond.code_spec hn (atoms_spec (ws := Jvm.Cond.code x code maxLocals ret :: tables_1) h _ List.mem_cons_self)
    exact ⟨meth, c, h1, h2, h3, h4, h5, h6⟩
  · intro p e s m args below meth c s₁ B hml0 hP _
    obtain ⟨rfl, hx, hbd, hgv⟩ := hP
    obtain ⟨scr, harrAt, hlist, hof, hsmall⟩ := hx
    obtain ⟨hcb, hkn, -, -⟩ := State.arrayAt?_spec harrAt
    have hown : s.vm.findClass R_law = some m.cls := findClass_of_methodNamed B.named
    have hts0 : ∀ c ∈ (Jvm.Cond.code x code maxLocals ret :: tables_1), c.before #[Value.ref b] s = true := atoms_spec (ws := Jvm.Cond.code x code maxLocals ret :: tables_1) B.pre
    have hts : ∀ w ∈ lw_tbl, w.before #[Value.ref b] s = true := k2_hts_sels lw_privs (fun w hw => hts0 w (List.mem_cons_of_mem _ hw)) lw_privs_ok
    have hml : c.maxLocals = 4 := B.maxLocals_eq (hts0 _ List.mem_cons_self)
    have X₀ : Stand p l e room_1 s m #[Value.ref b] below meth c s₁ [] 0 0 := Stand.of_body B
    have hh0 : s₁.heap = s.heap := by rw [B.state]; rfl
    have hsz : scr.slots.size = xs.length := by rw [← Array.length_toList, hlist, List.length_map]
    have hval : ∀ j : Nat, j < xs.length → scr.slots[j]? = some (.int (xs.getD j 0)) := fun j hj => by
      rw [← Array.getElem?_toList, hlist]
      simp [hj]
    have hbl : b < s.heap.size := (Array.getElem?_eq_some_iff.mp hcb).1
    have hX : va_X b xs.length (fun j => xs.getD j 0) s s.heap := ⟨scr, hcb, hof, hkn, hsz, hval⟩
    have K : W p l e room_1 s m #[Value.ref b] below meth c s₁.heap [] 0 0 (lw_Z below #[Value.ref b] s) (entryFrame m ([Value.ref b] : List Value).toArray 4) := by
      rw [hh0]
      exact whole_start l hbd ⟨B.exec, B.bytes, B.returns, hml, hown, hts, hX, hbl, B.notSynchronized, hgv⟩
    obtain ⟨t, a1, o, b1, b2, b3⟩ := K s₁ rfl X₀
    exact ⟨t, o, a1, b1, b2, b3⟩
theorem lw_pre_spec {args : Array Value} {s : State} (h : (Jvm.Cond.and given_1 narrow_1).before args s = true) (hr : rest_1_c.before args s = true) : ∃ (b : Addr) (xs : List Int32), lw_P b xs args s := by
  have hs := flat_of_before _ h
  have hq := flat_of_before _ hr
  have hc : (Cond.count 1).before args s = true := hs _ (by decide +kernel)
  have harr : (Cond.arrayOf (.arg 0) .int).before args s = true := hs _ (by decide +kernel)
  have hle : (Cond.le (.length (.arg 0)) (.int 193)).before args s = true := hs _ (by decide +kernel)
  have hlen : (Cond.isInt (.length (.arg 0))).before args s = true := hq _ (by decide +kernel)
  have hall : (Cond.all (.arg 0) (.isInt (.elem (.arg 0) (.index 0)))).before args s = true := hq _ (by decide +kernel)
  obtain ⟨b, xs, hb, hx⟩ := State.ints_of_pre rfl harr hlen hall
  have hsm : xs.length < 2 ^ 31 := hx.choose_spec.2.2.2
  have hev : (Term.length (.arg 0)).eval args s none [] s = some (.int xs.length.toInt32) := hx.length_eval hb
  have hv := Cond.le_ints hev (show (Term.int 193).eval args s none [] s = some (.int 193) from rfl)
  have hd : xs.length.toInt32 ≤ 193 := by
    simpa [Cond.before, Cond.holds, hv] using hle
  have hN : xs.length ≤ 193 := (Int32.ofNat_le_ofNat hsm (by decide)).mp (show Int32.ofNat xs.length ≤ Int32.ofNat 193 from hd)
  exact ⟨b, xs, Cond.one_arg hc (show args[0]? = some (.ref b) from hb), hx, hN, h⟩
theorem lw_comes (l : Launch) : Comes l x (Jvm.Cond.code x code maxLocals ret :: tables_1) room_1 (fun tb e args s => Calls_1 tb e args s ∧ rest_1 tb e args s ∧ Pre_1 tb e args s)
    (fun _ _ args s o t => lw_Q args s o t) := by
  intro p e ha hc hk s m args below hf hfit hheap happ hpre
  obtain ⟨b, xs, hP⟩ := lw_pre_spec hpre.2.2 hpre.2.1
  obtain ⟨k, o, h1, h2, h3, hQ⟩ := lw_walk l b xs p e ha hc hk s m args below hf ((Spec.applies_iff_loose hf).mp happ).1 hP trivial
  exact ⟨k, o, h1, h2, h3, hQ⟩
theorem lw_frame {s t : State} {o : Outcome} {args : Array Value} (h : Framed s o t [] 600000 7290000) :
    Framed s o t (fieldLocs frame_1_writes args s ++ arrayLocs frame_1_arrays args s ++ staticLocs frame_1_statics s) 600000 7290000 := h
theorem lw_limb (L : Cond) (hL : ∀ (args : Array Value) (s t : State), L.after args s (.returned (some (.int 1))) t = true) :
    ArmFor flags0 classFile x code maxLocals ret World_1 tables_1 room_1 Calls_1 rest_1 Pre_1
      (fun tb e a s o t => postC L tb e a s o t ∧ Framed s o t (fieldLocs frame_1_writes a s ++ arrayLocs frame_1_arrays a s ++ staticLocs frame_1_statics s) 600000 7290000) := by
  intro l _ _ _ p e ha hc hk s m args below hf hfit hheap happ hpre
  obtain ⟨k, o, h1, h2, h3, rfl, hF⟩ := lw_comes l p e ha hc hk s m args below hf hfit hheap happ hpre
  exact ⟨k, _, h1, h2, h3, hL args s _, lw_frame hF⟩
theorem i_vc : Claimed_1_1 ∧ Claimed_1_2 := ⟨lw_limb limb_1_1 (fun args s t => by simp [limb_1_1, Cond.after, Cond.holds, Cond.value]), lw_limb limb_1_2 (fun args s t => Cond.after_iff.mpr (by
  first | (rw [show limb_1_2 = Cond.eq .result (.int 1) from rfl, Cond.eq_ints (x := 1) (y := 1) rfl rfl]; simp; done) | (simp [limb_1_2, Cond.value, Term.eval]; done)))⟩
end
