section
-- ===== PART A: goes FIRST, ahead of the names: the tables' words, and 'selects' of the private methods out of them =====
/-- a private method of a class that the tables say can be made, by its rows of tables_1 -/
def lw_okq (q : MethodName × Nat) : Prop := (q.1.cls ≠ "java/lang/invoke/MethodHandle" ∧ q.1.cls ≠ "java/lang/invoke/VarHandle") ∧ Cond.instantiable q.1.cls q.2 ∈ tables_1 ∧ Cond.privateMethod q.1 ∈ tables_1 ∧ Cond.instanceMethod q.1 ∈ tables_1
set_option maxRecDepth 100000
theorem lw_t1 {w : Cond} (h : w ∈ tables_1_1) : w ∈ tables_1 := List.mem_append_left _ h
theorem lw_t2 {w : Cond} (h : w ∈ tables_1_2) : w ∈ tables_1 := List.mem_append_right _ h
theorem lw_p0 : lw_okq (⟨"HistogramTree", "restOf", "(I)I"⟩, 17) := ⟨⟨by decide +kernel, by decide +kernel⟩, lw_t1 (List.mem_of_getElem? (i := 4) rfl), lw_t1 (List.mem_of_getElem? (i := 77) rfl), lw_t1 (List.mem_of_getElem? (i := 78) rfl)⟩
theorem lw_p1 : lw_okq (⟨"HistogramTree", "predictAll", "(I)I"⟩, 17) := ⟨⟨by decide +kernel, by decide +kernel⟩, lw_t1 (List.mem_of_getElem? (i := 4) rfl), lw_t1 (List.mem_of_getElem? (i := 81) rfl), lw_t1 (List.mem_of_getElem? (i := 82) rfl)⟩
theorem lw_p2 : lw_okq (⟨"HistogramTree", "predictBy", "(II)I"⟩, 17) := ⟨⟨by decide +kernel, by decide +kernel⟩, lw_t1 (List.mem_of_getElem? (i := 4) rfl), lw_t1 (List.mem_of_getElem? (i := 85) rfl), lw_t1 (List.mem_of_getElem? (i := 86) rfl)⟩
theorem lw_p3 : lw_okq (⟨"HistogramTree", "fromRows", "(I)V"⟩, 17) := ⟨⟨by decide +kernel, by decide +kernel⟩, lw_t1 (List.mem_of_getElem? (i := 4) rfl), lw_t1 (List.mem_of_getElem? (i := 92) rfl), lw_t1 (List.mem_of_getElem? (i := 93) rfl)⟩
theorem lw_p4 : lw_okq (⟨"HistogramTree", "clearCells", "(I)V"⟩, 17) := ⟨⟨by decide +kernel, by decide +kernel⟩, lw_t1 (List.mem_of_getElem? (i := 4) rfl), lw_t1 (List.mem_of_getElem? (i := 96) rfl), lw_t1 (List.mem_of_getElem? (i := 97) rfl)⟩
theorem lw_p5 : lw_okq (⟨"HistogramTree", "addRow", "(II)V"⟩, 17) := ⟨⟨by decide +kernel, by decide +kernel⟩, lw_t1 (List.mem_of_getElem? (i := 4) rfl), lw_t1 (List.mem_of_getElem? (i := 100) rfl), lw_t1 (List.mem_of_getElem? (i := 101) rfl)⟩
theorem lw_p6 : lw_okq (⟨"HistogramTree", "grow", "(II)I"⟩, 17) := ⟨⟨by decide +kernel, by decide +kernel⟩, lw_t1 (List.mem_of_getElem? (i := 4) rfl), lw_t1 (List.mem_of_getElem? (i := 104) rfl), lw_t1 (List.mem_of_getElem? (i := 105) rfl)⟩
theorem lw_p7 : lw_okq (⟨"HistogramTree", "splitNode", "(II)Z"⟩, 17) := ⟨⟨by decide +kernel, by decide +kernel⟩, lw_t1 (List.mem_of_getElem? (i := 4) rfl), lw_t1 (List.mem_of_getElem? (i := 108) rfl), lw_t1 (List.mem_of_getElem? (i := 109) rfl)⟩
theorem lw_p8 : lw_okq (⟨"HistogramTree", "rowsIn", "(I)I"⟩, 17) := ⟨⟨by decide +kernel, by decide +kernel⟩, lw_t1 (List.mem_of_getElem? (i := 4) rfl), lw_t1 (List.mem_of_getElem? (i := 112) rfl), lw_t1 (List.mem_of_getElem? (i := 113) rfl)⟩
theorem lw_p9 : lw_okq (⟨"HistogramTree", "sumIn", "(I)I"⟩, 17) := ⟨⟨by decide +kernel, by decide +kernel⟩, lw_t1 (List.mem_of_getElem? (i := 4) rfl), lw_t1 (List.mem_of_getElem? (i := 116) rfl), lw_t1 (List.mem_of_getElem? (i := 117) rfl)⟩
theorem lw_p10 : lw_okq (⟨"HistogramTree", "findSplit", "(III)V"⟩, 17) := ⟨⟨by decide +kernel, by decide +kernel⟩, lw_t1 (List.mem_of_getElem? (i := 4) rfl), lw_t1 (List.mem_of_getElem? (i := 120) rfl), lw_t1 (List.mem_of_getElem? (i := 121) rfl)⟩
theorem lw_p11 : lw_okq (⟨"HistogramTree", "tryLeft", "(IIJJJJ)V"⟩, 17) := ⟨⟨by decide +kernel, by decide +kernel⟩, lw_t1 (List.mem_of_getElem? (i := 4) rfl), lw_t1 (List.mem_of_getElem? (i := 124) rfl), lw_t1 (List.mem_of_getElem? (i := 125) rfl)⟩
theorem lw_p12 : lw_okq (⟨"HistogramTree", "makeLeaf", "(III)V"⟩, 17) := ⟨⟨by decide +kernel, by decide +kernel⟩, lw_t1 (List.mem_of_getElem? (i := 4) rfl), lw_t1 (List.mem_of_getElem? (i := 128) rfl), lw_t1 (List.mem_of_getElem? (i := 129) rfl)⟩
theorem lw_p13 : lw_okq (⟨"HistogramTree", "part", "(II)V"⟩, 17) := ⟨⟨by decide +kernel, by decide +kernel⟩, lw_t1 (List.mem_of_getElem? (i := 4) rfl), lw_t1 (List.mem_of_getElem? (i := 132) rfl), lw_t1 (List.mem_of_getElem? (i := 133) rfl)⟩
theorem lw_p14 : lw_okq (⟨"HistogramTree", "fromParent", "(III)V"⟩, 17) := ⟨⟨by decide +kernel, by decide +kernel⟩, lw_t1 (List.mem_of_getElem? (i := 4) rfl), lw_t1 (List.mem_of_getElem? (i := 136) rfl), lw_t1 (List.mem_of_getElem? (i := 137) rfl)⟩
theorem lw_p15 : lw_okq (⟨"HistogramTree", "noNode", "(II)Z"⟩, 17) := ⟨⟨by decide +kernel, by decide +kernel⟩, lw_t1 (List.mem_of_getElem? (i := 4) rfl), lw_t1 (List.mem_of_getElem? (i := 164) rfl), lw_t1 (List.mem_of_getElem? (i := 165) rfl)⟩
def lw_privs_1 : List (MethodName × Nat) := [(⟨"HistogramTree", "restOf", "(I)I"⟩, 17), (⟨"HistogramTree", "predictAll", "(I)I"⟩, 17), (⟨"HistogramTree", "predictBy", "(II)I"⟩, 17), (⟨"HistogramTree", "fromRows", "(I)V"⟩, 17), (⟨"HistogramTree", "clearCells", "(I)V"⟩, 17), (⟨"HistogramTree", "addRow", "(II)V"⟩, 17), (⟨"HistogramTree", "grow", "(II)I"⟩, 17), (⟨"HistogramTree", "splitNode", "(II)Z"⟩, 17), (⟨"HistogramTree", "rowsIn", "(I)I"⟩, 17), (⟨"HistogramTree", "sumIn", "(I)I"⟩, 17), (⟨"HistogramTree", "findSplit", "(III)V"⟩, 17), (⟨"HistogramTree", "tryLeft", "(IIJJJJ)V"⟩, 17), (⟨"HistogramTree", "makeLeaf", "(III)V"⟩, 17), (⟨"HistogramTree", "part", "(II)V"⟩, 17), (⟨"HistogramTree", "fromParent", "(III)V"⟩, 17), (⟨"HistogramTree", "noNode", "(II)Z"⟩, 17)]
theorem lw_r1 : ∀ q ∈ lw_privs_1, lw_okq q := List.forall_mem_cons.mpr ⟨lw_p0, List.forall_mem_cons.mpr ⟨lw_p1, List.forall_mem_cons.mpr ⟨lw_p2, List.forall_mem_cons.mpr ⟨lw_p3, List.forall_mem_cons.mpr ⟨lw_p4, List.forall_mem_cons.mpr ⟨lw_p5, List.forall_mem_cons.mpr ⟨lw_p6, List.forall_mem_cons.mpr ⟨lw_p7, List.forall_mem_cons.mpr ⟨lw_p8, List.forall_mem_cons.mpr ⟨lw_p9, List.forall_mem_cons.mpr ⟨lw_p10, List.forall_mem_cons.mpr ⟨lw_p11, List.forall_mem_cons.mpr ⟨lw_p12, List.forall_mem_cons.mpr ⟨lw_p13, List.forall_mem_cons.mpr ⟨lw_p14, List.forall_mem_cons.mpr ⟨lw_p15, fun _ h => absurd h List.not_mem_nil⟩⟩⟩⟩⟩⟩⟩⟩⟩⟩⟩⟩⟩⟩⟩⟩
theorem lw_p16 : lw_okq (⟨"HistogramTreeModel", "badTarget", "(I)Z"⟩, 11) := ⟨⟨by decide +kernel, by decide +kernel⟩, lw_t1 (List.mem_of_getElem? (i := 183) rfl), lw_t1 (List.mem_of_getElem? (i := 227) rfl), lw_t1 (List.mem_of_getElem? (i := 228) rfl)⟩
theorem lw_p17 : lw_okq (⟨"HistogramTreeModel", "leafValue", "(II)I"⟩, 11) := ⟨⟨by decide +kernel, by decide +kernel⟩, lw_t1 (List.mem_of_getElem? (i := 183) rfl), lw_t2 (List.mem_of_getElem? (i := 7) rfl), lw_t2 (List.mem_of_getElem? (i := 8) rfl)⟩
theorem lw_p18 : lw_okq (⟨"HistogramTreeModel", "cell", "(II)I"⟩, 11) := ⟨⟨by decide +kernel, by decide +kernel⟩, lw_t1 (List.mem_of_getElem? (i := 183) rfl), lw_t2 (List.mem_of_getElem? (i := 11) rfl), lw_t2 (List.mem_of_getElem? (i := 12) rfl)⟩
theorem lw_p19 : lw_okq (⟨"HistogramTreeModel", "settle", "(II)V"⟩, 11) := ⟨⟨by decide +kernel, by decide +kernel⟩, lw_t1 (List.mem_of_getElem? (i := 183) rfl), lw_t2 (List.mem_of_getElem? (i := 15) rfl), lw_t2 (List.mem_of_getElem? (i := 16) rfl)⟩
theorem lw_p20 : lw_okq (⟨"HistogramTreeModel", "rowsOf", "(III)I"⟩, 11) := ⟨⟨by decide +kernel, by decide +kernel⟩, lw_t1 (List.mem_of_getElem? (i := 183) rfl), lw_t2 (List.mem_of_getElem? (i := 19) rfl), lw_t2 (List.mem_of_getElem? (i := 20) rfl)⟩
theorem lw_p21 : lw_okq (⟨"HistogramTreeModel", "sumOf", "(III)J"⟩, 11) := ⟨⟨by decide +kernel, by decide +kernel⟩, lw_t1 (List.mem_of_getElem? (i := 183) rfl), lw_t2 (List.mem_of_getElem? (i := 23) rfl), lw_t2 (List.mem_of_getElem? (i := 24) rfl)⟩
theorem lw_p22 : lw_okq (⟨"HistogramTreeModel", "split", "(II)V"⟩, 11) := ⟨⟨by decide +kernel, by decide +kernel⟩, lw_t1 (List.mem_of_getElem? (i := 183) rfl), lw_t2 (List.mem_of_getElem? (i := 27) rfl), lw_t2 (List.mem_of_getElem? (i := 28) rfl)⟩
theorem lw_p23 : lw_okq (⟨"HistogramTreeModel", "send", "(II)V"⟩, 11) := ⟨⟨by decide +kernel, by decide +kernel⟩, lw_t1 (List.mem_of_getElem? (i := 183) rfl), lw_t2 (List.mem_of_getElem? (i := 31) rfl), lw_t2 (List.mem_of_getElem? (i := 32) rfl)⟩
theorem lw_p24 : lw_okq (⟨"HistogramTreeModel", "none", "(II)Z"⟩, 11) := ⟨⟨by decide +kernel, by decide +kernel⟩, lw_t1 (List.mem_of_getElem? (i := 183) rfl), lw_t2 (List.mem_of_getElem? (i := 53) rfl), lw_t2 (List.mem_of_getElem? (i := 54) rfl)⟩
def lw_privs_2 : List (MethodName × Nat) := [(⟨"HistogramTreeModel", "badTarget", "(I)Z"⟩, 11), (⟨"HistogramTreeModel", "leafValue", "(II)I"⟩, 11), (⟨"HistogramTreeModel", "cell", "(II)I"⟩, 11), (⟨"HistogramTreeModel", "settle", "(II)V"⟩, 11), (⟨"HistogramTreeModel", "rowsOf", "(III)I"⟩, 11), (⟨"HistogramTreeModel", "sumOf", "(III)J"⟩, 11), (⟨"HistogramTreeModel", "split", "(II)V"⟩, 11), (⟨"HistogramTreeModel", "send", "(II)V"⟩, 11), (⟨"HistogramTreeModel", "none", "(II)Z"⟩, 11)]
theorem lw_r2 : ∀ q ∈ lw_privs_2, lw_okq q := List.forall_mem_cons.mpr ⟨lw_p16, List.forall_mem_cons.mpr ⟨lw_p17, List.forall_mem_cons.mpr ⟨lw_p18, List.forall_mem_cons.mpr ⟨lw_p19, List.forall_mem_cons.mpr ⟨lw_p20, List.forall_mem_cons.mpr ⟨lw_p21, List.forall_mem_cons.mpr ⟨lw_p22, List.forall_mem_cons.mpr ⟨lw_p23, List.forall_mem_cons.mpr ⟨lw_p24, fun _ h => absurd h List.not_mem_nil⟩⟩⟩⟩⟩⟩⟩⟩⟩
def lw_privs : List (MethodName × Nat) := lw_privs_1 ++ (lw_privs_2)
def lw_tbl : List Cond := k2_sels lw_privs ++ tables_1
theorem lw_privs_ok : ∀ q ∈ lw_privs, lw_okq q := by
  show ∀ q ∈ lw_privs_1 ++ (lw_privs_2), lw_okq q
  exact List.forall_mem_append.mpr ⟨lw_r1, lw_r2⟩
-- ===== ONE list of words for every method: the tables' words that hold all through a run =====
def lw_all : List Cond := lw_tbl.filter goodWord
/-- a word of the tables by its place: claim/WORDS.tsv -/
theorem lw_w {w : Cond} (i : Nat) (h : lw_tbl[i]? = some w) (g : goodWord w = true) : w ∈ lw_all := List.mem_filter.mpr ⟨List.mem_of_getElem? h, g⟩
theorem lw_all_tbl {w : Cond} (h : w ∈ lw_all) : w ∈ lw_tbl := (List.mem_filter.mp h).1
theorem lw_self : GoodIn lw_all lw_all := fun w h => ⟨h, good_of_word (List.mem_filter.mp h).2⟩
/-- a class's field words, by their places -/
theorem lw_in (ws : List Cond) (ps : List Nat) (hp : ws = ps.filterMap (fun i => lw_tbl[i]?)) (hg : ws.all goodWord = true) : ∀ w ∈ ws, w ∈ lw_all := by
  intro w h
  have h1 := List.all_eq_true.mp hg w h
  rw [hp] at h
  obtain ⟨i, -, hi⟩ := List.mem_filterMap.mp h
  exact lw_w i hi h1
/-- the words of a contract for the method y with code b, L locals, answer r -/
abbrev ws_ (y : MethodName) (b : ByteArray) (L : Nat) (r : Option FieldType) : List Cond := Cond.code y b L r :: lw_all
theorem lw_meth {y : MethodName} {b : ByteArray} {L : Nat} {r : Option FieldType} (h : Cond.code y b L r ∈ lw_all) : GoodIn lw_all (ws_ y b L r) := by
  intro w hw
  rcases List.mem_cons.mp hw with e | e
  · rw [e]
    exact lw_self _ h
  · exact lw_self _ e
theorem lw_app {a c : List Cond} (ha : ∀ w ∈ a, w ∈ lw_all) (hc : GoodIn lw_all c) : GoodIn lw_all (a ++ c) := by
  intro w hw
  rcases List.mem_append.mp hw with e | e
  · exact lw_self w (ha w e)
  · exact hc w e
/-- what a call through an object asks: cwV n hts (lw_V ..) -/
theorem lw_V {own : String} {idx : Nat} {C : String} {y : MethodName} {b : ByteArray} {L : Nat} {r : Option FieldType} (h1 : Cond.methodLink own idx y ∈ lw_all) (h2 : Cond.instanceMethod y ∈ lw_all) (h3 : Cond.selects C y y ∈ lw_all) (h4 : Cond.initialized C ∈ lw_all) (h5 : Cond.code y b L r ∈ lw_all) : GoodIn lw_all (wsV own idx C y (ws_ y b L r)) := by
  refine lw_app ?_ (lw_meth h5)
  intro w hw
  simp only [List.mem_cons, List.not_mem_nil, or_false] at hw
  rcases hw with e | e | e | e
  · rw [e]; exact h1
  · rw [e]; exact h2
  · rw [e]; exact h3
  · rw [e]; exact h4
/-- what a static call asks: va_cwS n hts (lw_S ..) -/
theorem lw_S {own : String} {idx : Nat} {y : MethodName} {b : ByteArray} {L : Nat} {r : Option FieldType} (h1 : Cond.methodLink own idx y ∈ lw_all) (h2 : Cond.static y ∈ lw_all) (h3 : Cond.initialized y.cls ∈ lw_all) (h4 : Cond.code y b L r ∈ lw_all) : GoodIn lw_all (va_wsS own idx y (ws_ y b L r)) := by
  refine lw_app ?_ (lw_meth h4)
  intro w hw
  simp only [List.mem_cons, List.not_mem_nil, or_false] at hw
  rcases hw with e | e | e
  · rw [e]; exact h1
  · rw [e]; exact h2
  · rw [e]; exact h3
/-- the words of a contract for a method WITH HANDLERS (hh: its table) -/
abbrev wsW_ (y : MethodName) (b : ByteArray) (L : Nat) (r : Option FieldType) (hh : List (Nat × Nat × Nat × Nat)) : List Cond := Cond.codeWith y b L r hh :: lw_all
theorem lw_methW {y : MethodName} {b : ByteArray} {L : Nat} {r : Option FieldType} {hh : List (Nat × Nat × Nat × Nat)} (h : Cond.codeWith y b L r hh ∈ lw_all) : GoodIn lw_all (wsW_ y b L r hh) := by
  intro w hw
  rcases List.mem_cons.mp hw with e | e
  · rw [e]
    exact lw_self _ h
  · exact lw_self _ e
/-- any list of words by their places (lw_in), good -/
theorem lw_good {ws : List Cond} (h : ∀ w ∈ ws, w ∈ lw_all) : GoodIn lw_all ws := fun w hw => lw_self w (h w hw)
/-- what a call of a method with handlers asks: vx_cwVW n hts (lw_VW ..), vx_cwSW n hts (lw_SW ..) -/
theorem lw_VW {own : String} {idx : Nat} {C : String} {y : MethodName} {b : ByteArray} {L : Nat} {r : Option FieldType} {hh : List (Nat × Nat × Nat × Nat)} (h1 : Cond.methodLink own idx y ∈ lw_all) (h2 : Cond.instanceMethod y ∈ lw_all) (h3 : Cond.selects C y y ∈ lw_all) (h4 : Cond.initialized C ∈ lw_all) (h5 : Cond.codeWith y b L r hh ∈ lw_all) : GoodIn lw_all (wsV own idx C y (wsW_ y b L r hh)) := by
  refine lw_app ?_ (lw_methW h5)
  intro w hw
  simp only [List.mem_cons, List.not_mem_nil, or_false] at hw
  rcases hw with e | e | e | e
  · rw [e]; exact h1
  · rw [e]; exact h2
  · rw [e]; exact h3
  · rw [e]; exact h4
theorem lw_SW {own : String} {idx : Nat} {y : MethodName} {b : ByteArray} {L : Nat} {r : Option FieldType} {hh : List (Nat × Nat × Nat × Nat)} (h1 : Cond.methodLink own idx y ∈ lw_all) (h2 : Cond.static y ∈ lw_all) (h3 : Cond.initialized y.cls ∈ lw_all) (h4 : Cond.codeWith y b L r hh ∈ lw_all) : GoodIn lw_all (va_wsS own idx y (wsW_ y b L r hh)) := by
  refine lw_app ?_ (lw_methW h4)
  intro w hw
  simp only [List.mem_cons, List.not_mem_nil, or_false] at hw
  rcases hw with e | e | e
  · rw [e]; exact h1
  · rw [e]; exact h2
  · rw [e]; exact h3
/-- a word by its place in its run of the tables -/
theorem lw_at {r : List Cond} (hr : ∀ w ∈ r, w ∈ lw_tbl) {w : Cond} (i : Nat) (h : r[i]? = some w) : w ∈ lw_tbl := hr w (List.mem_of_getElem? h)
theorem lw_g {w : Cond} (h : w ∈ lw_tbl) (g : goodWord w = true) : w ∈ lw_all := List.mem_filter.mpr ⟨h, g⟩
theorem lw_ms : ∀ w ∈ k2_sels lw_privs, w ∈ lw_tbl := fun w h => show w ∈ k2_sels lw_privs ++ tables_1 from List.mem_append_left _ h
theorem lw_m1 : ∀ w ∈ tables_1_1, w ∈ lw_tbl := fun w h => show w ∈ k2_sels lw_privs ++ tables_1 from List.mem_append_right (k2_sels lw_privs) (show w ∈ tables_1 from List.mem_append_left _ h)
theorem lw_m2 : ∀ w ∈ tables_1_2, w ∈ lw_tbl := fun w h => show w ∈ k2_sels lw_privs ++ tables_1 from List.mem_append_right (k2_sels lw_privs) (show w ∈ tables_1 from List.mem_append_right _ h)
theorem qs0 : (Cond.selects "HistogramTree" ⟨"HistogramTree", "restOf", "(I)I"⟩ ⟨"HistogramTree", "restOf", "(I)I"⟩) ∈ lw_all := lw_g (lw_at lw_ms 0 rfl) rfl
theorem qs1 : (Cond.selects "HistogramTree" ⟨"HistogramTree", "predictAll", "(I)I"⟩ ⟨"HistogramTree", "predictAll", "(I)I"⟩) ∈ lw_all := lw_g (lw_at lw_ms 1 rfl) rfl
theorem qs2 : (Cond.selects "HistogramTree" ⟨"HistogramTree", "predictBy", "(II)I"⟩ ⟨"HistogramTree", "predictBy", "(II)I"⟩) ∈ lw_all := lw_g (lw_at lw_ms 2 rfl) rfl
theorem qs3 : (Cond.selects "HistogramTree" ⟨"HistogramTree", "fromRows", "(I)V"⟩ ⟨"HistogramTree", "fromRows", "(I)V"⟩) ∈ lw_all := lw_g (lw_at lw_ms 3 rfl) rfl
theorem qs4 : (Cond.selects "HistogramTree" ⟨"HistogramTree", "clearCells", "(I)V"⟩ ⟨"HistogramTree", "clearCells", "(I)V"⟩) ∈ lw_all := lw_g (lw_at lw_ms 4 rfl) rfl
theorem qs5 : (Cond.selects "HistogramTree" ⟨"HistogramTree", "addRow", "(II)V"⟩ ⟨"HistogramTree", "addRow", "(II)V"⟩) ∈ lw_all := lw_g (lw_at lw_ms 5 rfl) rfl
theorem qs6 : (Cond.selects "HistogramTree" ⟨"HistogramTree", "grow", "(II)I"⟩ ⟨"HistogramTree", "grow", "(II)I"⟩) ∈ lw_all := lw_g (lw_at lw_ms 6 rfl) rfl
theorem qs7 : (Cond.selects "HistogramTree" ⟨"HistogramTree", "splitNode", "(II)Z"⟩ ⟨"HistogramTree", "splitNode", "(II)Z"⟩) ∈ lw_all := lw_g (lw_at lw_ms 7 rfl) rfl
theorem qs8 : (Cond.selects "HistogramTree" ⟨"HistogramTree", "rowsIn", "(I)I"⟩ ⟨"HistogramTree", "rowsIn", "(I)I"⟩) ∈ lw_all := lw_g (lw_at lw_ms 8 rfl) rfl
theorem qs9 : (Cond.selects "HistogramTree" ⟨"HistogramTree", "sumIn", "(I)I"⟩ ⟨"HistogramTree", "sumIn", "(I)I"⟩) ∈ lw_all := lw_g (lw_at lw_ms 9 rfl) rfl
theorem qs10 : (Cond.selects "HistogramTree" ⟨"HistogramTree", "findSplit", "(III)V"⟩ ⟨"HistogramTree", "findSplit", "(III)V"⟩) ∈ lw_all := lw_g (lw_at lw_ms 10 rfl) rfl
theorem qs11 : (Cond.selects "HistogramTree" ⟨"HistogramTree", "tryLeft", "(IIJJJJ)V"⟩ ⟨"HistogramTree", "tryLeft", "(IIJJJJ)V"⟩) ∈ lw_all := lw_g (lw_at lw_ms 11 rfl) rfl
theorem qs12 : (Cond.selects "HistogramTree" ⟨"HistogramTree", "makeLeaf", "(III)V"⟩ ⟨"HistogramTree", "makeLeaf", "(III)V"⟩) ∈ lw_all := lw_g (lw_at lw_ms 12 rfl) rfl
theorem qs13 : (Cond.selects "HistogramTree" ⟨"HistogramTree", "part", "(II)V"⟩ ⟨"HistogramTree", "part", "(II)V"⟩) ∈ lw_all := lw_g (lw_at lw_ms 13 rfl) rfl
theorem qs14 : (Cond.selects "HistogramTree" ⟨"HistogramTree", "fromParent", "(III)V"⟩ ⟨"HistogramTree", "fromParent", "(III)V"⟩) ∈ lw_all := lw_g (lw_at lw_ms 14 rfl) rfl
theorem qs15 : (Cond.selects "HistogramTree" ⟨"HistogramTree", "noNode", "(II)Z"⟩ ⟨"HistogramTree", "noNode", "(II)Z"⟩) ∈ lw_all := lw_g (lw_at lw_ms 15 rfl) rfl
theorem qs16 : (Cond.selects "HistogramTreeModel" ⟨"HistogramTreeModel", "badTarget", "(I)Z"⟩ ⟨"HistogramTreeModel", "badTarget", "(I)Z"⟩) ∈ lw_all := lw_g (lw_at lw_ms 16 rfl) rfl
theorem qs17 : (Cond.selects "HistogramTreeModel" ⟨"HistogramTreeModel", "leafValue", "(II)I"⟩ ⟨"HistogramTreeModel", "leafValue", "(II)I"⟩) ∈ lw_all := lw_g (lw_at lw_ms 17 rfl) rfl
theorem qs18 : (Cond.selects "HistogramTreeModel" ⟨"HistogramTreeModel", "cell", "(II)I"⟩ ⟨"HistogramTreeModel", "cell", "(II)I"⟩) ∈ lw_all := lw_g (lw_at lw_ms 18 rfl) rfl
theorem qs19 : (Cond.selects "HistogramTreeModel" ⟨"HistogramTreeModel", "settle", "(II)V"⟩ ⟨"HistogramTreeModel", "settle", "(II)V"⟩) ∈ lw_all := lw_g (lw_at lw_ms 19 rfl) rfl
theorem qs20 : (Cond.selects "HistogramTreeModel" ⟨"HistogramTreeModel", "rowsOf", "(III)I"⟩ ⟨"HistogramTreeModel", "rowsOf", "(III)I"⟩) ∈ lw_all := lw_g (lw_at lw_ms 20 rfl) rfl
theorem qs21 : (Cond.selects "HistogramTreeModel" ⟨"HistogramTreeModel", "sumOf", "(III)J"⟩ ⟨"HistogramTreeModel", "sumOf", "(III)J"⟩) ∈ lw_all := lw_g (lw_at lw_ms 21 rfl) rfl
theorem qs22 : (Cond.selects "HistogramTreeModel" ⟨"HistogramTreeModel", "split", "(II)V"⟩ ⟨"HistogramTreeModel", "split", "(II)V"⟩) ∈ lw_all := lw_g (lw_at lw_ms 22 rfl) rfl
theorem qs23 : (Cond.selects "HistogramTreeModel" ⟨"HistogramTreeModel", "send", "(II)V"⟩ ⟨"HistogramTreeModel", "send", "(II)V"⟩) ∈ lw_all := lw_g (lw_at lw_ms 23 rfl) rfl
theorem qs24 : (Cond.selects "HistogramTreeModel" ⟨"HistogramTreeModel", "none", "(II)Z"⟩ ⟨"HistogramTreeModel", "none", "(II)Z"⟩) ∈ lw_all := lw_g (lw_at lw_ms 24 rfl) rfl
end
section
/-! HistogramTree -/
set_option maxRecDepth 100000
def RX1 : String := "HistogramTree"
def TX1 : u_T := fun k => match k with
  | 0 => ("HistogramTree", "leafSize", "I", true)
  | 1 => ("HistogramTree", "count", "I", false)
  | 2 => ("HistogramTree", "features", "[I", true)
  | 3 => ("HistogramTree", "target", "[I", true)
  | 4 => ("HistogramTree", "trees", "I", false)
  | 5 => ("HistogramTree", "splitFeature", "[I", true)
  | 6 => ("HistogramTree", "splitBound", "[I", true)
  | 7 => ("HistogramTree", "leafValue", "[I", true)
  | 8 => ("HistogramTree", "nodeRows", "[I", true)
  | 9 => ("HistogramTree", "rests", "[I", true)
  | 10 => ("HistogramTree", "nodeOf", "[I", true)
  | 11 => ("HistogramTree", "cellRows", "[I", true)
  | 12 => ("HistogramTree", "cellSum", "[I", true)
  | 13 => ("HistogramTree", "bestFeature", "I", false)
  | 14 => ("HistogramTree", "bestBound", "I", false)
  | 15 => ("HistogramTree", "bestTop", "J", false)
  | _ => ("HistogramTree", "bestBottom", "J", false)
def tyX1 : Nat → FieldType := fun k => match k with
  | 0 => .int
  | 1 => .int
  | 2 => .array .int
  | 3 => .array .int
  | 4 => .int
  | 5 => .array .int
  | 6 => .array .int
  | 7 => .array .int
  | 8 => .array .int
  | 9 => .array .int
  | 10 => .array .int
  | 11 => .array .int
  | 12 => .array .int
  | 13 => .int
  | 14 => .int
  | 15 => .long
  | _ => .long
abbrev wsX10 : List Cond := u_ws RX1 TX1 17
set_option maxRecDepth 100000 in
theorem nmX1 : ∀ a, a < 17 → ∀ b, b < 17 → a ≠ b → (TX1 a).2.1 ≠ (TX1 b).2.1 := by decide +kernel
set_option maxRecDepth 100000 in
theorem tyX1_ok : ∀ k, k < 17 → parseFieldDescriptor (TX1 k).2.2.1 = some (tyX1 k) := by decide +kernel
abbrev cX1_init : ByteArray := prog_1_method_1_code
def yX1_init : MethodName := ⟨RX1, "<init>", "(I)V"⟩
abbrev cX1_row : ByteArray := prog_1_method_2_code
def yX1_row : MethodName := ⟨RX1, "row", "(II)I"⟩
abbrev cX1_retarget : ByteArray := prog_1_method_3_code
def yX1_retarget : MethodName := ⟨RX1, "retarget", "(II)I"⟩
abbrev cX1_train : ByteArray := prog_1_method_19_code
def yX1_train : MethodName := ⟨RX1, "train", "()I"⟩
abbrev cX1_restOf : ByteArray := prog_1_method_7_code
def yX1_restOf : MethodName := ⟨RX1, "restOf", "(I)I"⟩
abbrev cX1_predictAll : ByteArray := prog_1_method_6_code
def yX1_predictAll : MethodName := ⟨RX1, "predictAll", "(I)I"⟩
abbrev cX1_predictBy : ByteArray := prog_1_method_5_code
def yX1_predictBy : MethodName := ⟨RX1, "predictBy", "(II)I"⟩
abbrev cX1_featureOf : ByteArray := prog_1_method_4_code
def yX1_featureOf : MethodName := ⟨RX1, "featureOf", "(II)I"⟩
abbrev cX1_fromRows : ByteArray := prog_1_method_10_code
def yX1_fromRows : MethodName := ⟨RX1, "fromRows", "(I)V"⟩
abbrev cX1_clearCells : ByteArray := prog_1_method_8_code
def yX1_clearCells : MethodName := ⟨RX1, "clearCells", "(I)V"⟩
abbrev cX1_addRow : ByteArray := prog_1_method_9_code
def yX1_addRow : MethodName := ⟨RX1, "addRow", "(II)V"⟩
abbrev cX1_grow : ByteArray := prog_1_method_20_code
def yX1_grow : MethodName := ⟨RX1, "grow", "(II)I"⟩
abbrev cX1_splitNode : ByteArray := prog_1_method_17_code
def yX1_splitNode : MethodName := ⟨RX1, "splitNode", "(II)Z"⟩
abbrev cX1_rowsIn : ByteArray := prog_1_method_12_code
def yX1_rowsIn : MethodName := ⟨RX1, "rowsIn", "(I)I"⟩
abbrev cX1_sumIn : ByteArray := prog_1_method_13_code
def yX1_sumIn : MethodName := ⟨RX1, "sumIn", "(I)I"⟩
abbrev cX1_findSplit : ByteArray := prog_1_method_15_code
def yX1_findSplit : MethodName := ⟨RX1, "findSplit", "(III)V"⟩
abbrev cX1_tryLeft : ByteArray := prog_1_method_14_code
def yX1_tryLeft : MethodName := ⟨RX1, "tryLeft", "(IIJJJJ)V"⟩
abbrev cX1_makeLeaf : ByteArray := prog_1_method_16_code
def yX1_makeLeaf : MethodName := ⟨RX1, "makeLeaf", "(III)V"⟩
abbrev cX1_part : ByteArray := prog_1_method_18_code
def yX1_part : MethodName := ⟨RX1, "part", "(II)V"⟩
abbrev cX1_fromParent : ByteArray := prog_1_method_11_code
def yX1_fromParent : MethodName := ⟨RX1, "fromParent", "(III)V"⟩
abbrev cX1_dropTree : ByteArray := prog_1_method_21_code
def yX1_dropTree : MethodName := ⟨RX1, "dropTree", "()I"⟩
abbrev cX1_clear : ByteArray := prog_1_method_22_code
def yX1_clear : MethodName := ⟨RX1, "clear", "()V"⟩
abbrev cX1_predict : ByteArray := prog_1_method_23_code
def yX1_predict : MethodName := ⟨RX1, "predict", "(I)I"⟩
abbrev cX1_rest : ByteArray := prog_1_method_24_code
def yX1_rest : MethodName := ⟨RX1, "rest", "(I)I"⟩
abbrev cX1_loss : ByteArray := prog_1_method_25_code
def yX1_loss : MethodName := ⟨RX1, "loss", "()I"⟩
abbrev cX1_feature : ByteArray := prog_1_method_27_code
def yX1_feature : MethodName := ⟨RX1, "feature", "(II)I"⟩
abbrev cX1_noNode : ByteArray := prog_1_method_26_code
def yX1_noNode : MethodName := ⟨RX1, "noNode", "(II)Z"⟩
abbrev cX1_bound : ByteArray := prog_1_method_28_code
def yX1_bound : MethodName := ⟨RX1, "bound", "(II)I"⟩
abbrev cX1_value : ByteArray := prog_1_method_29_code
def yX1_value : MethodName := ⟨RX1, "value", "(II)I"⟩
abbrev cX1_rows : ByteArray := prog_1_method_30_code
def yX1_rows : MethodName := ⟨RX1, "rows", "(II)I"⟩
theorem q26 : (Jvm.Cond.initialized "HistogramTree") ∈ lw_all := lw_g (lw_at lw_m1 1 rfl) rfl
theorem q29 : (Jvm.Cond.instantiable "HistogramTree" (17 : Nat)) ∈ lw_all := lw_g (lw_at lw_m1 4 rfl) rfl
theorem q31 : (Jvm.Cond.instanceMethod ({ cls := "HistogramTree", name := "<init>", desc := "(I)V" } : Jvm.MethodName)) ∈ lw_all := lw_g (lw_at lw_m1 6 rfl) rfl
theorem q32 : (Jvm.Cond.code ({ cls := "HistogramTree", name := "<init>", desc := "(I)V" } : Jvm.MethodName) prog_1_method_1_code (3 : Nat) (Option.none : Option Jvm.ClassFile.FieldType)) ∈ lw_all := lw_g (lw_at lw_m1 7 rfl) rfl
theorem q33 : (Jvm.Cond.methodLink "HistogramTree" (1 : Nat) ({ cls := "java/lang/Object", name := "<init>", desc := "()V" } : Jvm.MethodName)) ∈ lw_all := lw_g (lw_at lw_m1 8 rfl) rfl
theorem q36 : (Jvm.Cond.fieldLink "HistogramTree" (40 : Nat) "HistogramTree" "leafSize" "I") ∈ lw_all := lw_g (lw_at lw_m1 11 rfl) rfl
theorem q37 : (Jvm.Cond.fieldLink "HistogramTree" (44 : Nat) "HistogramTree" "count" "I") ∈ lw_all := lw_g (lw_at lw_m1 12 rfl) rfl
theorem q38 : (Jvm.Cond.fieldLink "HistogramTree" (7 : Nat) "HistogramTree" "features" "[I") ∈ lw_all := lw_g (lw_at lw_m1 13 rfl) rfl
theorem q39 : (Jvm.Cond.fieldLink "HistogramTree" (13 : Nat) "HistogramTree" "target" "[I") ∈ lw_all := lw_g (lw_at lw_m1 14 rfl) rfl
theorem q40 : (Jvm.Cond.fieldLink "HistogramTree" (51 : Nat) "HistogramTree" "trees" "I") ∈ lw_all := lw_g (lw_at lw_m1 15 rfl) rfl
theorem q41 : (Jvm.Cond.fieldLink "HistogramTree" (16 : Nat) "HistogramTree" "splitFeature" "[I") ∈ lw_all := lw_g (lw_at lw_m1 16 rfl) rfl
theorem q42 : (Jvm.Cond.fieldLink "HistogramTree" (19 : Nat) "HistogramTree" "splitBound" "[I") ∈ lw_all := lw_g (lw_at lw_m1 17 rfl) rfl
theorem q43 : (Jvm.Cond.fieldLink "HistogramTree" (22 : Nat) "HistogramTree" "leafValue" "[I") ∈ lw_all := lw_g (lw_at lw_m1 18 rfl) rfl
theorem q44 : (Jvm.Cond.fieldLink "HistogramTree" (25 : Nat) "HistogramTree" "nodeRows" "[I") ∈ lw_all := lw_g (lw_at lw_m1 19 rfl) rfl
theorem q45 : (Jvm.Cond.fieldLink "HistogramTree" (28 : Nat) "HistogramTree" "rests" "[I") ∈ lw_all := lw_g (lw_at lw_m1 20 rfl) rfl
theorem q46 : (Jvm.Cond.fieldLink "HistogramTree" (31 : Nat) "HistogramTree" "nodeOf" "[I") ∈ lw_all := lw_g (lw_at lw_m1 21 rfl) rfl
theorem q47 : (Jvm.Cond.fieldLink "HistogramTree" (34 : Nat) "HistogramTree" "cellRows" "[I") ∈ lw_all := lw_g (lw_at lw_m1 22 rfl) rfl
theorem q48 : (Jvm.Cond.fieldLink "HistogramTree" (37 : Nat) "HistogramTree" "cellSum" "[I") ∈ lw_all := lw_g (lw_at lw_m1 23 rfl) rfl
theorem q49 : (Jvm.Cond.fieldLink "HistogramTree" (69 : Nat) "HistogramTree" "bestFeature" "I") ∈ lw_all := lw_g (lw_at lw_m1 24 rfl) rfl
theorem q50 : (Jvm.Cond.fieldLink "HistogramTree" (79 : Nat) "HistogramTree" "bestBound" "I") ∈ lw_all := lw_g (lw_at lw_m1 25 rfl) rfl
theorem q51 : (Jvm.Cond.fieldLink "HistogramTree" (76 : Nat) "HistogramTree" "bestTop" "J") ∈ lw_all := lw_g (lw_at lw_m1 26 rfl) rfl
theorem q52 : (Jvm.Cond.fieldLink "HistogramTree" (72 : Nat) "HistogramTree" "bestBottom" "J") ∈ lw_all := lw_g (lw_at lw_m1 27 rfl) rfl
theorem q53 : (Jvm.Cond.laysFinal "HistogramTree" "HistogramTree" "leafSize" "I") ∈ lw_all := lw_g (lw_at lw_m1 28 rfl) rfl
theorem q54 : (Jvm.Cond.soleField "HistogramTree" "leafSize") ∈ lw_all := lw_g (lw_at lw_m1 29 rfl) rfl
theorem q55 : (Jvm.Cond.lays "HistogramTree" "HistogramTree" "count" "I") ∈ lw_all := lw_g (lw_at lw_m1 30 rfl) rfl
theorem q56 : (Jvm.Cond.soleField "HistogramTree" "count") ∈ lw_all := lw_g (lw_at lw_m1 31 rfl) rfl
theorem q57 : (Jvm.Cond.laysFinal "HistogramTree" "HistogramTree" "features" "[I") ∈ lw_all := lw_g (lw_at lw_m1 32 rfl) rfl
theorem q58 : (Jvm.Cond.soleField "HistogramTree" "features") ∈ lw_all := lw_g (lw_at lw_m1 33 rfl) rfl
theorem q59 : (Jvm.Cond.laysFinal "HistogramTree" "HistogramTree" "target" "[I") ∈ lw_all := lw_g (lw_at lw_m1 34 rfl) rfl
theorem q60 : (Jvm.Cond.soleField "HistogramTree" "target") ∈ lw_all := lw_g (lw_at lw_m1 35 rfl) rfl
theorem q61 : (Jvm.Cond.lays "HistogramTree" "HistogramTree" "trees" "I") ∈ lw_all := lw_g (lw_at lw_m1 36 rfl) rfl
theorem q62 : (Jvm.Cond.soleField "HistogramTree" "trees") ∈ lw_all := lw_g (lw_at lw_m1 37 rfl) rfl
theorem q63 : (Jvm.Cond.laysFinal "HistogramTree" "HistogramTree" "splitFeature" "[I") ∈ lw_all := lw_g (lw_at lw_m1 38 rfl) rfl
theorem q64 : (Jvm.Cond.soleField "HistogramTree" "splitFeature") ∈ lw_all := lw_g (lw_at lw_m1 39 rfl) rfl
theorem q65 : (Jvm.Cond.laysFinal "HistogramTree" "HistogramTree" "splitBound" "[I") ∈ lw_all := lw_g (lw_at lw_m1 40 rfl) rfl
theorem q66 : (Jvm.Cond.soleField "HistogramTree" "splitBound") ∈ lw_all := lw_g (lw_at lw_m1 41 rfl) rfl
theorem q67 : (Jvm.Cond.laysFinal "HistogramTree" "HistogramTree" "leafValue" "[I") ∈ lw_all := lw_g (lw_at lw_m1 42 rfl) rfl
theorem q68 : (Jvm.Cond.soleField "HistogramTree" "leafValue") ∈ lw_all := lw_g (lw_at lw_m1 43 rfl) rfl
theorem q69 : (Jvm.Cond.laysFinal "HistogramTree" "HistogramTree" "nodeRows" "[I") ∈ lw_all := lw_g (lw_at lw_m1 44 rfl) rfl
theorem q70 : (Jvm.Cond.soleField "HistogramTree" "nodeRows") ∈ lw_all := lw_g (lw_at lw_m1 45 rfl) rfl
theorem q71 : (Jvm.Cond.laysFinal "HistogramTree" "HistogramTree" "rests" "[I") ∈ lw_all := lw_g (lw_at lw_m1 46 rfl) rfl
theorem q72 : (Jvm.Cond.soleField "HistogramTree" "rests") ∈ lw_all := lw_g (lw_at lw_m1 47 rfl) rfl
theorem q73 : (Jvm.Cond.laysFinal "HistogramTree" "HistogramTree" "nodeOf" "[I") ∈ lw_all := lw_g (lw_at lw_m1 48 rfl) rfl
theorem q74 : (Jvm.Cond.soleField "HistogramTree" "nodeOf") ∈ lw_all := lw_g (lw_at lw_m1 49 rfl) rfl
theorem q75 : (Jvm.Cond.laysFinal "HistogramTree" "HistogramTree" "cellRows" "[I") ∈ lw_all := lw_g (lw_at lw_m1 50 rfl) rfl
theorem q76 : (Jvm.Cond.soleField "HistogramTree" "cellRows") ∈ lw_all := lw_g (lw_at lw_m1 51 rfl) rfl
theorem q77 : (Jvm.Cond.laysFinal "HistogramTree" "HistogramTree" "cellSum" "[I") ∈ lw_all := lw_g (lw_at lw_m1 52 rfl) rfl
theorem q78 : (Jvm.Cond.soleField "HistogramTree" "cellSum") ∈ lw_all := lw_g (lw_at lw_m1 53 rfl) rfl
theorem q79 : (Jvm.Cond.lays "HistogramTree" "HistogramTree" "bestFeature" "I") ∈ lw_all := lw_g (lw_at lw_m1 54 rfl) rfl
theorem q80 : (Jvm.Cond.soleField "HistogramTree" "bestFeature") ∈ lw_all := lw_g (lw_at lw_m1 55 rfl) rfl
theorem q81 : (Jvm.Cond.lays "HistogramTree" "HistogramTree" "bestBound" "I") ∈ lw_all := lw_g (lw_at lw_m1 56 rfl) rfl
theorem q82 : (Jvm.Cond.soleField "HistogramTree" "bestBound") ∈ lw_all := lw_g (lw_at lw_m1 57 rfl) rfl
theorem q83 : (Jvm.Cond.lays "HistogramTree" "HistogramTree" "bestTop" "J") ∈ lw_all := lw_g (lw_at lw_m1 58 rfl) rfl
theorem q84 : (Jvm.Cond.soleField "HistogramTree" "bestTop") ∈ lw_all := lw_g (lw_at lw_m1 59 rfl) rfl
theorem q85 : (Jvm.Cond.lays "HistogramTree" "HistogramTree" "bestBottom" "J") ∈ lw_all := lw_g (lw_at lw_m1 60 rfl) rfl
theorem q86 : (Jvm.Cond.soleField "HistogramTree" "bestBottom") ∈ lw_all := lw_g (lw_at lw_m1 61 rfl) rfl
theorem q87 : (Jvm.Cond.superclass "HistogramTree" "java/lang/Object") ∈ lw_all := lw_g (lw_at lw_m1 62 rfl) rfl
theorem q90 : (Jvm.Cond.instanceMethod ({ cls := "HistogramTree", name := "row", desc := "(II)I" } : Jvm.MethodName)) ∈ lw_all := lw_g (lw_at lw_m1 65 rfl) rfl
theorem q91 : (Jvm.Cond.selects "HistogramTree" ({ cls := "HistogramTree", name := "row", desc := "(II)I" } : Jvm.MethodName) ({ cls := "HistogramTree", name := "row", desc := "(II)I" } : Jvm.MethodName)) ∈ lw_all := lw_g (lw_at lw_m1 66 rfl) rfl
theorem q92 : (Jvm.Cond.code ({ cls := "HistogramTree", name := "row", desc := "(II)I" } : Jvm.MethodName) prog_1_method_2_code (3 : Nat) (Option.some Jvm.ClassFile.FieldType.int)) ∈ lw_all := lw_g (lw_at lw_m1 67 rfl) rfl
theorem q94 : (Jvm.Cond.instanceMethod ({ cls := "HistogramTree", name := "retarget", desc := "(II)I" } : Jvm.MethodName)) ∈ lw_all := lw_g (lw_at lw_m1 69 rfl) rfl
theorem q95 : (Jvm.Cond.selects "HistogramTree" ({ cls := "HistogramTree", name := "retarget", desc := "(II)I" } : Jvm.MethodName) ({ cls := "HistogramTree", name := "retarget", desc := "(II)I" } : Jvm.MethodName)) ∈ lw_all := lw_g (lw_at lw_m1 70 rfl) rfl
theorem q96 : (Jvm.Cond.code ({ cls := "HistogramTree", name := "retarget", desc := "(II)I" } : Jvm.MethodName) prog_1_method_3_code (4 : Nat) (Option.some Jvm.ClassFile.FieldType.int)) ∈ lw_all := lw_g (lw_at lw_m1 71 rfl) rfl
theorem q98 : (Jvm.Cond.instanceMethod ({ cls := "HistogramTree", name := "train", desc := "()I" } : Jvm.MethodName)) ∈ lw_all := lw_g (lw_at lw_m1 73 rfl) rfl
theorem q99 : (Jvm.Cond.selects "HistogramTree" ({ cls := "HistogramTree", name := "train", desc := "()I" } : Jvm.MethodName) ({ cls := "HistogramTree", name := "train", desc := "()I" } : Jvm.MethodName)) ∈ lw_all := lw_g (lw_at lw_m1 74 rfl) rfl
theorem q100 : (Jvm.Cond.code ({ cls := "HistogramTree", name := "train", desc := "()I" } : Jvm.MethodName) prog_1_method_19_code (5 : Nat) (Option.some Jvm.ClassFile.FieldType.int)) ∈ lw_all := lw_g (lw_at lw_m1 75 rfl) rfl
theorem q101 : (Jvm.Cond.methodLink "HistogramTree" (105 : Nat) ({ cls := "HistogramTree", name := "restOf", desc := "(I)I" } : Jvm.MethodName)) ∈ lw_all := lw_g (lw_at lw_m1 76 rfl) rfl
theorem q102 : (Jvm.Cond.privateMethod ({ cls := "HistogramTree", name := "restOf", desc := "(I)I" } : Jvm.MethodName)) ∈ lw_tbl := lw_at lw_m1 77 rfl
theorem q103 : (Jvm.Cond.instanceMethod ({ cls := "HistogramTree", name := "restOf", desc := "(I)I" } : Jvm.MethodName)) ∈ lw_all := lw_g (lw_at lw_m1 78 rfl) rfl
theorem q104 : (Jvm.Cond.code ({ cls := "HistogramTree", name := "restOf", desc := "(I)I" } : Jvm.MethodName) prog_1_method_7_code (3 : Nat) (Option.some Jvm.ClassFile.FieldType.int)) ∈ lw_all := lw_g (lw_at lw_m1 79 rfl) rfl
theorem q105 : (Jvm.Cond.methodLink "HistogramTree" (57 : Nat) ({ cls := "HistogramTree", name := "predictAll", desc := "(I)I" } : Jvm.MethodName)) ∈ lw_all := lw_g (lw_at lw_m1 80 rfl) rfl
theorem q106 : (Jvm.Cond.privateMethod ({ cls := "HistogramTree", name := "predictAll", desc := "(I)I" } : Jvm.MethodName)) ∈ lw_tbl := lw_at lw_m1 81 rfl
theorem q107 : (Jvm.Cond.instanceMethod ({ cls := "HistogramTree", name := "predictAll", desc := "(I)I" } : Jvm.MethodName)) ∈ lw_all := lw_g (lw_at lw_m1 82 rfl) rfl
theorem q108 : (Jvm.Cond.code ({ cls := "HistogramTree", name := "predictAll", desc := "(I)I" } : Jvm.MethodName) prog_1_method_6_code (4 : Nat) (Option.some Jvm.ClassFile.FieldType.int)) ∈ lw_all := lw_g (lw_at lw_m1 83 rfl) rfl
theorem q109 : (Jvm.Cond.methodLink "HistogramTree" (54 : Nat) ({ cls := "HistogramTree", name := "predictBy", desc := "(II)I" } : Jvm.MethodName)) ∈ lw_all := lw_g (lw_at lw_m1 84 rfl) rfl
theorem q110 : (Jvm.Cond.privateMethod ({ cls := "HistogramTree", name := "predictBy", desc := "(II)I" } : Jvm.MethodName)) ∈ lw_tbl := lw_at lw_m1 85 rfl
theorem q111 : (Jvm.Cond.instanceMethod ({ cls := "HistogramTree", name := "predictBy", desc := "(II)I" } : Jvm.MethodName)) ∈ lw_all := lw_g (lw_at lw_m1 86 rfl) rfl
theorem q112 : (Jvm.Cond.code ({ cls := "HistogramTree", name := "predictBy", desc := "(II)I" } : Jvm.MethodName) prog_1_method_5_code (7 : Nat) (Option.some Jvm.ClassFile.FieldType.int)) ∈ lw_all := lw_g (lw_at lw_m1 87 rfl) rfl
theorem q113 : (Jvm.Cond.methodLink "HistogramTree" (47 : Nat) ({ cls := "HistogramTree", name := "featureOf", desc := "(II)I" } : Jvm.MethodName)) ∈ lw_all := lw_g (lw_at lw_m1 88 rfl) rfl
theorem q114 : (Jvm.Cond.static ({ cls := "HistogramTree", name := "featureOf", desc := "(II)I" } : Jvm.MethodName)) ∈ lw_all := lw_g (lw_at lw_m1 89 rfl) rfl
theorem q115 : (Jvm.Cond.code ({ cls := "HistogramTree", name := "featureOf", desc := "(II)I" } : Jvm.MethodName) prog_1_method_4_code (2 : Nat) (Option.some Jvm.ClassFile.FieldType.int)) ∈ lw_all := lw_g (lw_at lw_m1 90 rfl) rfl
theorem q116 : (Jvm.Cond.methodLink "HistogramTree" (99 : Nat) ({ cls := "HistogramTree", name := "fromRows", desc := "(I)V" } : Jvm.MethodName)) ∈ lw_all := lw_g (lw_at lw_m1 91 rfl) rfl
theorem q117 : (Jvm.Cond.privateMethod ({ cls := "HistogramTree", name := "fromRows", desc := "(I)V" } : Jvm.MethodName)) ∈ lw_tbl := lw_at lw_m1 92 rfl
theorem q118 : (Jvm.Cond.instanceMethod ({ cls := "HistogramTree", name := "fromRows", desc := "(I)V" } : Jvm.MethodName)) ∈ lw_all := lw_g (lw_at lw_m1 93 rfl) rfl
theorem q119 : (Jvm.Cond.code ({ cls := "HistogramTree", name := "fromRows", desc := "(I)V" } : Jvm.MethodName) prog_1_method_10_code (3 : Nat) (Option.none : Option Jvm.ClassFile.FieldType)) ∈ lw_all := lw_g (lw_at lw_m1 94 rfl) rfl
theorem q120 : (Jvm.Cond.methodLink "HistogramTree" (61 : Nat) ({ cls := "HistogramTree", name := "clearCells", desc := "(I)V" } : Jvm.MethodName)) ∈ lw_all := lw_g (lw_at lw_m1 95 rfl) rfl
theorem q121 : (Jvm.Cond.privateMethod ({ cls := "HistogramTree", name := "clearCells", desc := "(I)V" } : Jvm.MethodName)) ∈ lw_tbl := lw_at lw_m1 96 rfl
theorem q122 : (Jvm.Cond.instanceMethod ({ cls := "HistogramTree", name := "clearCells", desc := "(I)V" } : Jvm.MethodName)) ∈ lw_all := lw_g (lw_at lw_m1 97 rfl) rfl
theorem q123 : (Jvm.Cond.code ({ cls := "HistogramTree", name := "clearCells", desc := "(I)V" } : Jvm.MethodName) prog_1_method_8_code (3 : Nat) (Option.none : Option Jvm.ClassFile.FieldType)) ∈ lw_all := lw_g (lw_at lw_m1 98 rfl) rfl
theorem q124 : (Jvm.Cond.methodLink "HistogramTree" (65 : Nat) ({ cls := "HistogramTree", name := "addRow", desc := "(II)V" } : Jvm.MethodName)) ∈ lw_all := lw_g (lw_at lw_m1 99 rfl) rfl
theorem q125 : (Jvm.Cond.privateMethod ({ cls := "HistogramTree", name := "addRow", desc := "(II)V" } : Jvm.MethodName)) ∈ lw_tbl := lw_at lw_m1 100 rfl
theorem q126 : (Jvm.Cond.instanceMethod ({ cls := "HistogramTree", name := "addRow", desc := "(II)V" } : Jvm.MethodName)) ∈ lw_all := lw_g (lw_at lw_m1 101 rfl) rfl
theorem q127 : (Jvm.Cond.code ({ cls := "HistogramTree", name := "addRow", desc := "(II)V" } : Jvm.MethodName) prog_1_method_9_code (5 : Nat) (Option.none : Option Jvm.ClassFile.FieldType)) ∈ lw_all := lw_g (lw_at lw_m1 102 rfl) rfl
theorem q128 : (Jvm.Cond.methodLink "HistogramTree" (108 : Nat) ({ cls := "HistogramTree", name := "grow", desc := "(II)I" } : Jvm.MethodName)) ∈ lw_all := lw_g (lw_at lw_m1 103 rfl) rfl
theorem q129 : (Jvm.Cond.privateMethod ({ cls := "HistogramTree", name := "grow", desc := "(II)I" } : Jvm.MethodName)) ∈ lw_tbl := lw_at lw_m1 104 rfl
theorem q130 : (Jvm.Cond.instanceMethod ({ cls := "HistogramTree", name := "grow", desc := "(II)I" } : Jvm.MethodName)) ∈ lw_all := lw_g (lw_at lw_m1 105 rfl) rfl
theorem q131 : (Jvm.Cond.code ({ cls := "HistogramTree", name := "grow", desc := "(II)I" } : Jvm.MethodName) prog_1_method_20_code (4 : Nat) (Option.some Jvm.ClassFile.FieldType.int)) ∈ lw_all := lw_g (lw_at lw_m1 106 rfl) rfl
theorem q132 : (Jvm.Cond.methodLink "HistogramTree" (111 : Nat) ({ cls := "HistogramTree", name := "splitNode", desc := "(II)Z" } : Jvm.MethodName)) ∈ lw_all := lw_g (lw_at lw_m1 107 rfl) rfl
theorem q133 : (Jvm.Cond.privateMethod ({ cls := "HistogramTree", name := "splitNode", desc := "(II)Z" } : Jvm.MethodName)) ∈ lw_tbl := lw_at lw_m1 108 rfl
theorem q134 : (Jvm.Cond.instanceMethod ({ cls := "HistogramTree", name := "splitNode", desc := "(II)Z" } : Jvm.MethodName)) ∈ lw_all := lw_g (lw_at lw_m1 109 rfl) rfl
theorem q135 : (Jvm.Cond.code ({ cls := "HistogramTree", name := "splitNode", desc := "(II)Z" } : Jvm.MethodName) prog_1_method_17_code (8 : Nat) (Option.some Jvm.ClassFile.FieldType.boolean)) ∈ lw_all := lw_g (lw_at lw_m1 110 rfl) rfl
theorem q136 : (Jvm.Cond.methodLink "HistogramTree" (86 : Nat) ({ cls := "HistogramTree", name := "rowsIn", desc := "(I)I" } : Jvm.MethodName)) ∈ lw_all := lw_g (lw_at lw_m1 111 rfl) rfl
theorem q137 : (Jvm.Cond.privateMethod ({ cls := "HistogramTree", name := "rowsIn", desc := "(I)I" } : Jvm.MethodName)) ∈ lw_tbl := lw_at lw_m1 112 rfl
theorem q138 : (Jvm.Cond.instanceMethod ({ cls := "HistogramTree", name := "rowsIn", desc := "(I)I" } : Jvm.MethodName)) ∈ lw_all := lw_g (lw_at lw_m1 113 rfl) rfl
theorem q139 : (Jvm.Cond.code ({ cls := "HistogramTree", name := "rowsIn", desc := "(I)I" } : Jvm.MethodName) prog_1_method_12_code (4 : Nat) (Option.some Jvm.ClassFile.FieldType.int)) ∈ lw_all := lw_g (lw_at lw_m1 114 rfl) rfl
theorem q140 : (Jvm.Cond.methodLink "HistogramTree" (89 : Nat) ({ cls := "HistogramTree", name := "sumIn", desc := "(I)I" } : Jvm.MethodName)) ∈ lw_all := lw_g (lw_at lw_m1 115 rfl) rfl
theorem q141 : (Jvm.Cond.privateMethod ({ cls := "HistogramTree", name := "sumIn", desc := "(I)I" } : Jvm.MethodName)) ∈ lw_tbl := lw_at lw_m1 116 rfl
theorem q142 : (Jvm.Cond.instanceMethod ({ cls := "HistogramTree", name := "sumIn", desc := "(I)I" } : Jvm.MethodName)) ∈ lw_all := lw_g (lw_at lw_m1 117 rfl) rfl
theorem q143 : (Jvm.Cond.code ({ cls := "HistogramTree", name := "sumIn", desc := "(I)I" } : Jvm.MethodName) prog_1_method_13_code (4 : Nat) (Option.some Jvm.ClassFile.FieldType.int)) ∈ lw_all := lw_g (lw_at lw_m1 118 rfl) rfl
theorem q144 : (Jvm.Cond.methodLink "HistogramTree" (92 : Nat) ({ cls := "HistogramTree", name := "findSplit", desc := "(III)V" } : Jvm.MethodName)) ∈ lw_all := lw_g (lw_at lw_m1 119 rfl) rfl
theorem q145 : (Jvm.Cond.privateMethod ({ cls := "HistogramTree", name := "findSplit", desc := "(III)V" } : Jvm.MethodName)) ∈ lw_tbl := lw_at lw_m1 120 rfl
theorem q146 : (Jvm.Cond.instanceMethod ({ cls := "HistogramTree", name := "findSplit", desc := "(III)V" } : Jvm.MethodName)) ∈ lw_all := lw_g (lw_at lw_m1 121 rfl) rfl
theorem q147 : (Jvm.Cond.code ({ cls := "HistogramTree", name := "findSplit", desc := "(III)V" } : Jvm.MethodName) prog_1_method_15_code (8 : Nat) (Option.none : Option Jvm.ClassFile.FieldType)) ∈ lw_all := lw_g (lw_at lw_m1 122 rfl) rfl
theorem q148 : (Jvm.Cond.methodLink "HistogramTree" (82 : Nat) ({ cls := "HistogramTree", name := "tryLeft", desc := "(IIJJJJ)V" } : Jvm.MethodName)) ∈ lw_all := lw_g (lw_at lw_m1 123 rfl) rfl
theorem q149 : (Jvm.Cond.privateMethod ({ cls := "HistogramTree", name := "tryLeft", desc := "(IIJJJJ)V" } : Jvm.MethodName)) ∈ lw_tbl := lw_at lw_m1 124 rfl
theorem q150 : (Jvm.Cond.instanceMethod ({ cls := "HistogramTree", name := "tryLeft", desc := "(IIJJJJ)V" } : Jvm.MethodName)) ∈ lw_all := lw_g (lw_at lw_m1 125 rfl) rfl
theorem q151 : (Jvm.Cond.code ({ cls := "HistogramTree", name := "tryLeft", desc := "(IIJJJJ)V" } : Jvm.MethodName) prog_1_method_14_code (19 : Nat) (Option.none : Option Jvm.ClassFile.FieldType)) ∈ lw_all := lw_g (lw_at lw_m1 126 rfl) rfl
theorem q152 : (Jvm.Cond.methodLink "HistogramTree" (96 : Nat) ({ cls := "HistogramTree", name := "makeLeaf", desc := "(III)V" } : Jvm.MethodName)) ∈ lw_all := lw_g (lw_at lw_m1 127 rfl) rfl
theorem q153 : (Jvm.Cond.privateMethod ({ cls := "HistogramTree", name := "makeLeaf", desc := "(III)V" } : Jvm.MethodName)) ∈ lw_tbl := lw_at lw_m1 128 rfl
theorem q154 : (Jvm.Cond.instanceMethod ({ cls := "HistogramTree", name := "makeLeaf", desc := "(III)V" } : Jvm.MethodName)) ∈ lw_all := lw_g (lw_at lw_m1 129 rfl) rfl
theorem q155 : (Jvm.Cond.code ({ cls := "HistogramTree", name := "makeLeaf", desc := "(III)V" } : Jvm.MethodName) prog_1_method_16_code (4 : Nat) (Option.none : Option Jvm.ClassFile.FieldType)) ∈ lw_all := lw_g (lw_at lw_m1 130 rfl) rfl
theorem q156 : (Jvm.Cond.methodLink "HistogramTree" (115 : Nat) ({ cls := "HistogramTree", name := "part", desc := "(II)V" } : Jvm.MethodName)) ∈ lw_all := lw_g (lw_at lw_m1 131 rfl) rfl
theorem q157 : (Jvm.Cond.privateMethod ({ cls := "HistogramTree", name := "part", desc := "(II)V" } : Jvm.MethodName)) ∈ lw_tbl := lw_at lw_m1 132 rfl
theorem q158 : (Jvm.Cond.instanceMethod ({ cls := "HistogramTree", name := "part", desc := "(II)V" } : Jvm.MethodName)) ∈ lw_all := lw_g (lw_at lw_m1 133 rfl) rfl
theorem q159 : (Jvm.Cond.code ({ cls := "HistogramTree", name := "part", desc := "(II)V" } : Jvm.MethodName) prog_1_method_18_code (8 : Nat) (Option.none : Option Jvm.ClassFile.FieldType)) ∈ lw_all := lw_g (lw_at lw_m1 134 rfl) rfl
theorem q160 : (Jvm.Cond.methodLink "HistogramTree" (102 : Nat) ({ cls := "HistogramTree", name := "fromParent", desc := "(III)V" } : Jvm.MethodName)) ∈ lw_all := lw_g (lw_at lw_m1 135 rfl) rfl
theorem q161 : (Jvm.Cond.privateMethod ({ cls := "HistogramTree", name := "fromParent", desc := "(III)V" } : Jvm.MethodName)) ∈ lw_tbl := lw_at lw_m1 136 rfl
theorem q162 : (Jvm.Cond.instanceMethod ({ cls := "HistogramTree", name := "fromParent", desc := "(III)V" } : Jvm.MethodName)) ∈ lw_all := lw_g (lw_at lw_m1 137 rfl) rfl
theorem q163 : (Jvm.Cond.code ({ cls := "HistogramTree", name := "fromParent", desc := "(III)V" } : Jvm.MethodName) prog_1_method_11_code (5 : Nat) (Option.none : Option Jvm.ClassFile.FieldType)) ∈ lw_all := lw_g (lw_at lw_m1 138 rfl) rfl
theorem q165 : (Jvm.Cond.instanceMethod ({ cls := "HistogramTree", name := "dropTree", desc := "()I" } : Jvm.MethodName)) ∈ lw_all := lw_g (lw_at lw_m1 140 rfl) rfl
theorem q166 : (Jvm.Cond.selects "HistogramTree" ({ cls := "HistogramTree", name := "dropTree", desc := "()I" } : Jvm.MethodName) ({ cls := "HistogramTree", name := "dropTree", desc := "()I" } : Jvm.MethodName)) ∈ lw_all := lw_g (lw_at lw_m1 141 rfl) rfl
theorem q167 : (Jvm.Cond.code ({ cls := "HistogramTree", name := "dropTree", desc := "()I" } : Jvm.MethodName) prog_1_method_21_code (1 : Nat) (Option.some Jvm.ClassFile.FieldType.int)) ∈ lw_all := lw_g (lw_at lw_m1 142 rfl) rfl
theorem q169 : (Jvm.Cond.instanceMethod ({ cls := "HistogramTree", name := "clear", desc := "()V" } : Jvm.MethodName)) ∈ lw_all := lw_g (lw_at lw_m1 144 rfl) rfl
theorem q170 : (Jvm.Cond.selects "HistogramTree" ({ cls := "HistogramTree", name := "clear", desc := "()V" } : Jvm.MethodName) ({ cls := "HistogramTree", name := "clear", desc := "()V" } : Jvm.MethodName)) ∈ lw_all := lw_g (lw_at lw_m1 145 rfl) rfl
theorem q171 : (Jvm.Cond.code ({ cls := "HistogramTree", name := "clear", desc := "()V" } : Jvm.MethodName) prog_1_method_22_code (1 : Nat) (Option.none : Option Jvm.ClassFile.FieldType)) ∈ lw_all := lw_g (lw_at lw_m1 146 rfl) rfl
theorem q173 : (Jvm.Cond.instanceMethod ({ cls := "HistogramTree", name := "predict", desc := "(I)I" } : Jvm.MethodName)) ∈ lw_all := lw_g (lw_at lw_m1 148 rfl) rfl
theorem q174 : (Jvm.Cond.selects "HistogramTree" ({ cls := "HistogramTree", name := "predict", desc := "(I)I" } : Jvm.MethodName) ({ cls := "HistogramTree", name := "predict", desc := "(I)I" } : Jvm.MethodName)) ∈ lw_all := lw_g (lw_at lw_m1 149 rfl) rfl
theorem q175 : (Jvm.Cond.code ({ cls := "HistogramTree", name := "predict", desc := "(I)I" } : Jvm.MethodName) prog_1_method_23_code (2 : Nat) (Option.some Jvm.ClassFile.FieldType.int)) ∈ lw_all := lw_g (lw_at lw_m1 150 rfl) rfl
theorem q177 : (Jvm.Cond.instanceMethod ({ cls := "HistogramTree", name := "rest", desc := "(I)I" } : Jvm.MethodName)) ∈ lw_all := lw_g (lw_at lw_m1 152 rfl) rfl
theorem q178 : (Jvm.Cond.selects "HistogramTree" ({ cls := "HistogramTree", name := "rest", desc := "(I)I" } : Jvm.MethodName) ({ cls := "HistogramTree", name := "rest", desc := "(I)I" } : Jvm.MethodName)) ∈ lw_all := lw_g (lw_at lw_m1 153 rfl) rfl
theorem q179 : (Jvm.Cond.code ({ cls := "HistogramTree", name := "rest", desc := "(I)I" } : Jvm.MethodName) prog_1_method_24_code (2 : Nat) (Option.some Jvm.ClassFile.FieldType.int)) ∈ lw_all := lw_g (lw_at lw_m1 154 rfl) rfl
theorem q181 : (Jvm.Cond.instanceMethod ({ cls := "HistogramTree", name := "loss", desc := "()I" } : Jvm.MethodName)) ∈ lw_all := lw_g (lw_at lw_m1 156 rfl) rfl
theorem q182 : (Jvm.Cond.selects "HistogramTree" ({ cls := "HistogramTree", name := "loss", desc := "()I" } : Jvm.MethodName) ({ cls := "HistogramTree", name := "loss", desc := "()I" } : Jvm.MethodName)) ∈ lw_all := lw_g (lw_at lw_m1 157 rfl) rfl
theorem q183 : (Jvm.Cond.code ({ cls := "HistogramTree", name := "loss", desc := "()I" } : Jvm.MethodName) prog_1_method_25_code (4 : Nat) (Option.some Jvm.ClassFile.FieldType.int)) ∈ lw_all := lw_g (lw_at lw_m1 158 rfl) rfl
theorem q185 : (Jvm.Cond.instanceMethod ({ cls := "HistogramTree", name := "feature", desc := "(II)I" } : Jvm.MethodName)) ∈ lw_all := lw_g (lw_at lw_m1 160 rfl) rfl
theorem q186 : (Jvm.Cond.selects "HistogramTree" ({ cls := "HistogramTree", name := "feature", desc := "(II)I" } : Jvm.MethodName) ({ cls := "HistogramTree", name := "feature", desc := "(II)I" } : Jvm.MethodName)) ∈ lw_all := lw_g (lw_at lw_m1 161 rfl) rfl
theorem q187 : (Jvm.Cond.code ({ cls := "HistogramTree", name := "feature", desc := "(II)I" } : Jvm.MethodName) prog_1_method_27_code (3 : Nat) (Option.some Jvm.ClassFile.FieldType.int)) ∈ lw_all := lw_g (lw_at lw_m1 162 rfl) rfl
theorem q188 : (Jvm.Cond.methodLink "HistogramTree" (118 : Nat) ({ cls := "HistogramTree", name := "noNode", desc := "(II)Z" } : Jvm.MethodName)) ∈ lw_all := lw_g (lw_at lw_m1 163 rfl) rfl
theorem q189 : (Jvm.Cond.privateMethod ({ cls := "HistogramTree", name := "noNode", desc := "(II)Z" } : Jvm.MethodName)) ∈ lw_tbl := lw_at lw_m1 164 rfl
theorem q190 : (Jvm.Cond.instanceMethod ({ cls := "HistogramTree", name := "noNode", desc := "(II)Z" } : Jvm.MethodName)) ∈ lw_all := lw_g (lw_at lw_m1 165 rfl) rfl
theorem q191 : (Jvm.Cond.code ({ cls := "HistogramTree", name := "noNode", desc := "(II)Z" } : Jvm.MethodName) prog_1_method_26_code (3 : Nat) (Option.some Jvm.ClassFile.FieldType.boolean)) ∈ lw_all := lw_g (lw_at lw_m1 166 rfl) rfl
theorem q193 : (Jvm.Cond.instanceMethod ({ cls := "HistogramTree", name := "bound", desc := "(II)I" } : Jvm.MethodName)) ∈ lw_all := lw_g (lw_at lw_m1 168 rfl) rfl
theorem q194 : (Jvm.Cond.selects "HistogramTree" ({ cls := "HistogramTree", name := "bound", desc := "(II)I" } : Jvm.MethodName) ({ cls := "HistogramTree", name := "bound", desc := "(II)I" } : Jvm.MethodName)) ∈ lw_all := lw_g (lw_at lw_m1 169 rfl) rfl
theorem q195 : (Jvm.Cond.code ({ cls := "HistogramTree", name := "bound", desc := "(II)I" } : Jvm.MethodName) prog_1_method_28_code (4 : Nat) (Option.some Jvm.ClassFile.FieldType.int)) ∈ lw_all := lw_g (lw_at lw_m1 170 rfl) rfl
theorem q197 : (Jvm.Cond.instanceMethod ({ cls := "HistogramTree", name := "value", desc := "(II)I" } : Jvm.MethodName)) ∈ lw_all := lw_g (lw_at lw_m1 172 rfl) rfl
theorem q198 : (Jvm.Cond.selects "HistogramTree" ({ cls := "HistogramTree", name := "value", desc := "(II)I" } : Jvm.MethodName) ({ cls := "HistogramTree", name := "value", desc := "(II)I" } : Jvm.MethodName)) ∈ lw_all := lw_g (lw_at lw_m1 173 rfl) rfl
theorem q199 : (Jvm.Cond.code ({ cls := "HistogramTree", name := "value", desc := "(II)I" } : Jvm.MethodName) prog_1_method_29_code (3 : Nat) (Option.some Jvm.ClassFile.FieldType.int)) ∈ lw_all := lw_g (lw_at lw_m1 174 rfl) rfl
theorem q201 : (Jvm.Cond.instanceMethod ({ cls := "HistogramTree", name := "rows", desc := "(II)I" } : Jvm.MethodName)) ∈ lw_all := lw_g (lw_at lw_m1 176 rfl) rfl
theorem q202 : (Jvm.Cond.selects "HistogramTree" ({ cls := "HistogramTree", name := "rows", desc := "(II)I" } : Jvm.MethodName) ({ cls := "HistogramTree", name := "rows", desc := "(II)I" } : Jvm.MethodName)) ∈ lw_all := lw_g (lw_at lw_m1 177 rfl) rfl
theorem q203 : (Jvm.Cond.code ({ cls := "HistogramTree", name := "rows", desc := "(II)I" } : Jvm.MethodName) prog_1_method_30_code (3 : Nat) (Option.some Jvm.ClassFile.FieldType.int)) ∈ lw_all := lw_g (lw_at lw_m1 178 rfl) rfl
theorem in_X1 : ∀ w ∈ wsX10, w ∈ lw_all := lw_in wsX10 [53, 55, 57, 59, 61, 63, 65, 67, 69, 71, 73, 75, 77, 79, 81, 83, 85] (by decide +kernel) (by decide +kernel)
end
section
set_option maxRecDepth 100000
theorem dX1_init_0 : decode cX1_init 0 = .ok (.aload_n 0, 1) := by decide +kernel
theorem dX1_init_1 : decode cX1_init 1 = .ok (.invokespecial 1, 3) := by decide +kernel
theorem dX1_init_4 : decode cX1_init 4 = .ok (.aload_n 0, 1) := by decide +kernel
theorem dX1_init_5 : decode cX1_init 5 = .ok (.bipush 24, 2) := by decide +kernel
theorem dX1_init_7 : decode cX1_init 7 = .ok (.newarray .int, 2) := by decide +kernel
theorem dX1_init_9 : decode cX1_init 9 = .ok (.putfield 7, 3) := by decide +kernel
theorem dX1_init_12 : decode cX1_init 12 = .ok (.aload_n 0, 1) := by decide +kernel
theorem dX1_init_13 : decode cX1_init 13 = .ok (.bipush 24, 2) := by decide +kernel
theorem dX1_init_15 : decode cX1_init 15 = .ok (.newarray .int, 2) := by decide +kernel
theorem dX1_init_17 : decode cX1_init 17 = .ok (.putfield 13, 3) := by decide +kernel
theorem dX1_init_20 : decode cX1_init 20 = .ok (.aload_n 0, 1) := by decide +kernel
theorem dX1_init_21 : decode cX1_init 21 = .ok (.bipush 28, 2) := by decide +kernel
theorem dX1_init_23 : decode cX1_init 23 = .ok (.newarray .int, 2) := by decide +kernel
theorem dX1_init_25 : decode cX1_init 25 = .ok (.putfield 16, 3) := by decide +kernel
theorem dX1_init_28 : decode cX1_init 28 = .ok (.aload_n 0, 1) := by decide +kernel
theorem dX1_init_29 : decode cX1_init 29 = .ok (.bipush 28, 2) := by decide +kernel
theorem dX1_init_31 : decode cX1_init 31 = .ok (.newarray .int, 2) := by decide +kernel
theorem dX1_init_33 : decode cX1_init 33 = .ok (.putfield 19, 3) := by decide +kernel
theorem dX1_init_36 : decode cX1_init 36 = .ok (.aload_n 0, 1) := by decide +kernel
theorem dX1_init_37 : decode cX1_init 37 = .ok (.bipush 28, 2) := by decide +kernel
theorem dX1_init_39 : decode cX1_init 39 = .ok (.newarray .int, 2) := by decide +kernel
theorem dX1_init_41 : decode cX1_init 41 = .ok (.putfield 22, 3) := by decide +kernel
theorem dX1_init_44 : decode cX1_init 44 = .ok (.aload_n 0, 1) := by decide +kernel
theorem dX1_init_45 : decode cX1_init 45 = .ok (.bipush 28, 2) := by decide +kernel
theorem dX1_init_47 : decode cX1_init 47 = .ok (.newarray .int, 2) := by decide +kernel
theorem dX1_init_49 : decode cX1_init 49 = .ok (.putfield 25, 3) := by decide +kernel
theorem dX1_init_52 : decode cX1_init 52 = .ok (.aload_n 0, 1) := by decide +kernel
theorem dX1_init_53 : decode cX1_init 53 = .ok (.bipush 24, 2) := by decide +kernel
theorem dX1_init_55 : decode cX1_init 55 = .ok (.newarray .int, 2) := by decide +kernel
theorem dX1_init_57 : decode cX1_init 57 = .ok (.putfield 28, 3) := by decide +kernel
theorem dX1_init_60 : decode cX1_init 60 = .ok (.aload_n 0, 1) := by decide +kernel
theorem dX1_init_61 : decode cX1_init 61 = .ok (.bipush 24, 2) := by decide +kernel
theorem dX1_init_63 : decode cX1_init 63 = .ok (.newarray .int, 2) := by decide +kernel
theorem dX1_init_65 : decode cX1_init 65 = .ok (.putfield 31, 3) := by decide +kernel
theorem dX1_init_68 : decode cX1_init 68 = .ok (.aload_n 0, 1) := by decide +kernel
theorem dX1_init_69 : decode cX1_init 69 = .ok (.sipush 168, 3) := by decide +kernel
theorem dX1_init_72 : decode cX1_init 72 = .ok (.newarray .int, 2) := by decide +kernel
theorem dX1_init_74 : decode cX1_init 74 = .ok (.putfield 34, 3) := by decide +kernel
theorem dX1_init_77 : decode cX1_init 77 = .ok (.aload_n 0, 1) := by decide +kernel
theorem dX1_init_78 : decode cX1_init 78 = .ok (.sipush 168, 3) := by decide +kernel
theorem dX1_init_81 : decode cX1_init 81 = .ok (.newarray .int, 2) := by decide +kernel
theorem dX1_init_83 : decode cX1_init 83 = .ok (.putfield 37, 3) := by decide +kernel
theorem dX1_init_86 : decode cX1_init 86 = .ok (.iload_n 1, 1) := by decide +kernel
theorem dX1_init_87 : decode cX1_init 87 = .ok (.istore_n 2, 1) := by decide +kernel
theorem dX1_init_88 : decode cX1_init 88 = .ok (.iload_n 2, 1) := by decide +kernel
theorem dX1_init_89 : decode cX1_init 89 = .ok (.iconst 1, 1) := by decide +kernel
theorem dX1_init_90 : decode cX1_init 90 = .ok (.if_icmp .ge 5, 3) := by decide +kernel
theorem dX1_init_93 : decode cX1_init 93 = .ok (.iconst 1, 1) := by decide +kernel
theorem dX1_init_94 : decode cX1_init 94 = .ok (.istore_n 2, 1) := by decide +kernel
theorem dX1_init_95 : decode cX1_init 95 = .ok (.iload_n 2, 1) := by decide +kernel
theorem dX1_init_96 : decode cX1_init 96 = .ok (.bipush 12, 2) := by decide +kernel
theorem dX1_init_98 : decode cX1_init 98 = .ok (.if_icmp .le 6, 3) := by decide +kernel
theorem dX1_init_101 : decode cX1_init 101 = .ok (.bipush 12, 2) := by decide +kernel
theorem dX1_init_103 : decode cX1_init 103 = .ok (.istore_n 2, 1) := by decide +kernel
theorem dX1_init_104 : decode cX1_init 104 = .ok (.aload_n 0, 1) := by decide +kernel
theorem dX1_init_105 : decode cX1_init 105 = .ok (.iload_n 2, 1) := by decide +kernel
theorem dX1_init_106 : decode cX1_init 106 = .ok (.putfield 40, 3) := by decide +kernel
theorem dX1_init_109 : decode cX1_init 109 = .ok (.return_, 1) := by decide +kernel
theorem dX1_row_0 : decode cX1_row 0 = .ok (.iload_n 2, 1) := by decide +kernel
theorem dX1_row_1 : decode cX1_row 1 = .ok (.bipush (-50), 2) := by decide +kernel
theorem dX1_row_3 : decode cX1_row 3 = .ok (.if_icmp .lt 9, 3) := by decide +kernel
theorem dX1_row_6 : decode cX1_row 6 = .ok (.iload_n 2, 1) := by decide +kernel
theorem dX1_row_7 : decode cX1_row 7 = .ok (.bipush 50, 2) := by decide +kernel
theorem dX1_row_9 : decode cX1_row 9 = .ok (.if_icmp .le 6, 3) := by decide +kernel
theorem dX1_row_12 : decode cX1_row 12 = .ok (.bipush (-2), 2) := by decide +kernel
theorem dX1_row_14 : decode cX1_row 14 = .ok (.ireturn, 1) := by decide +kernel
theorem dX1_row_15 : decode cX1_row 15 = .ok (.aload_n 0, 1) := by decide +kernel
theorem dX1_row_16 : decode cX1_row 16 = .ok (.getfield 44, 3) := by decide +kernel
theorem dX1_row_19 : decode cX1_row 19 = .ok (.bipush 24, 2) := by decide +kernel
theorem dX1_row_21 : decode cX1_row 21 = .ok (.if_icmp .lt 6, 3) := by decide +kernel
theorem dX1_row_24 : decode cX1_row 24 = .ok (.bipush (-3), 2) := by decide +kernel
theorem dX1_row_26 : decode cX1_row 26 = .ok (.ireturn, 1) := by decide +kernel
theorem dX1_row_27 : decode cX1_row 27 = .ok (.aload_n 0, 1) := by decide +kernel
theorem dX1_row_28 : decode cX1_row 28 = .ok (.getfield 7, 3) := by decide +kernel
theorem dX1_row_31 : decode cX1_row 31 = .ok (.aload_n 0, 1) := by decide +kernel
theorem dX1_row_32 : decode cX1_row 32 = .ok (.getfield 44, 3) := by decide +kernel
theorem dX1_row_35 : decode cX1_row 35 = .ok (.iload_n 1, 1) := by decide +kernel
theorem dX1_row_36 : decode cX1_row 36 = .ok (.sipush 511, 3) := by decide +kernel
theorem dX1_row_39 : decode cX1_row 39 = .ok (.iand, 1) := by decide +kernel
theorem dX1_row_40 : decode cX1_row 40 = .ok (.iastore, 1) := by decide +kernel
theorem dX1_row_41 : decode cX1_row 41 = .ok (.aload_n 0, 1) := by decide +kernel
theorem dX1_row_42 : decode cX1_row 42 = .ok (.getfield 13, 3) := by decide +kernel
theorem dX1_row_45 : decode cX1_row 45 = .ok (.aload_n 0, 1) := by decide +kernel
theorem dX1_row_46 : decode cX1_row 46 = .ok (.getfield 44, 3) := by decide +kernel
theorem dX1_row_49 : decode cX1_row 49 = .ok (.iload_n 2, 1) := by decide +kernel
theorem dX1_row_50 : decode cX1_row 50 = .ok (.iastore, 1) := by decide +kernel
theorem dX1_row_51 : decode cX1_row 51 = .ok (.aload_n 0, 1) := by decide +kernel
theorem dX1_row_52 : decode cX1_row 52 = .ok (.dup, 1) := by decide +kernel
theorem dX1_row_53 : decode cX1_row 53 = .ok (.getfield 44, 3) := by decide +kernel
theorem dX1_row_56 : decode cX1_row 56 = .ok (.iconst 1, 1) := by decide +kernel
theorem dX1_row_57 : decode cX1_row 57 = .ok (.iadd, 1) := by decide +kernel
theorem dX1_row_58 : decode cX1_row 58 = .ok (.putfield 44, 3) := by decide +kernel
theorem dX1_row_61 : decode cX1_row 61 = .ok (.aload_n 0, 1) := by decide +kernel
theorem dX1_row_62 : decode cX1_row 62 = .ok (.getfield 44, 3) := by decide +kernel
theorem dX1_row_65 : decode cX1_row 65 = .ok (.ireturn, 1) := by decide +kernel
theorem dX1_retarget_0 : decode cX1_retarget 0 = .ok (.iload_n 1, 1) := by decide +kernel
theorem dX1_retarget_1 : decode cX1_retarget 1 = .ok (.ifCond .lt 11, 3) := by decide +kernel
theorem dX1_retarget_4 : decode cX1_retarget 4 = .ok (.iload_n 1, 1) := by decide +kernel
theorem dX1_retarget_5 : decode cX1_retarget 5 = .ok (.aload_n 0, 1) := by decide +kernel
theorem dX1_retarget_6 : decode cX1_retarget 6 = .ok (.getfield 44, 3) := by decide +kernel
theorem dX1_retarget_9 : decode cX1_retarget 9 = .ok (.if_icmp .lt 6, 3) := by decide +kernel
theorem dX1_retarget_12 : decode cX1_retarget 12 = .ok (.bipush (-5), 2) := by decide +kernel
theorem dX1_retarget_14 : decode cX1_retarget 14 = .ok (.ireturn, 1) := by decide +kernel
theorem dX1_retarget_15 : decode cX1_retarget 15 = .ok (.iload_n 2, 1) := by decide +kernel
theorem dX1_retarget_16 : decode cX1_retarget 16 = .ok (.bipush (-50), 2) := by decide +kernel
theorem dX1_retarget_18 : decode cX1_retarget 18 = .ok (.if_icmp .lt 9, 3) := by decide +kernel
theorem dX1_retarget_21 : decode cX1_retarget 21 = .ok (.iload_n 2, 1) := by decide +kernel
theorem dX1_retarget_22 : decode cX1_retarget 22 = .ok (.bipush 50, 2) := by decide +kernel
theorem dX1_retarget_24 : decode cX1_retarget 24 = .ok (.if_icmp .le 6, 3) := by decide +kernel
theorem dX1_retarget_27 : decode cX1_retarget 27 = .ok (.bipush (-2), 2) := by decide +kernel
theorem dX1_retarget_29 : decode cX1_retarget 29 = .ok (.ireturn, 1) := by decide +kernel
theorem dX1_retarget_30 : decode cX1_retarget 30 = .ok (.aload_n 0, 1) := by decide +kernel
theorem dX1_retarget_31 : decode cX1_retarget 31 = .ok (.getfield 13, 3) := by decide +kernel
theorem dX1_retarget_34 : decode cX1_retarget 34 = .ok (.iload_n 1, 1) := by decide +kernel
theorem dX1_retarget_35 : decode cX1_retarget 35 = .ok (.iaload, 1) := by decide +kernel
theorem dX1_retarget_36 : decode cX1_retarget 36 = .ok (.istore_n 3, 1) := by decide +kernel
theorem dX1_retarget_37 : decode cX1_retarget 37 = .ok (.aload_n 0, 1) := by decide +kernel
theorem dX1_retarget_38 : decode cX1_retarget 38 = .ok (.getfield 13, 3) := by decide +kernel
theorem dX1_retarget_41 : decode cX1_retarget 41 = .ok (.iload_n 1, 1) := by decide +kernel
theorem dX1_retarget_42 : decode cX1_retarget 42 = .ok (.iload_n 2, 1) := by decide +kernel
theorem dX1_retarget_43 : decode cX1_retarget 43 = .ok (.iastore, 1) := by decide +kernel
theorem dX1_retarget_44 : decode cX1_retarget 44 = .ok (.iload_n 3, 1) := by decide +kernel
theorem dX1_retarget_45 : decode cX1_retarget 45 = .ok (.ireturn, 1) := by decide +kernel
theorem dX1_train_0 : decode cX1_train 0 = .ok (.aload_n 0, 1) := by decide +kernel
theorem dX1_train_1 : decode cX1_train 1 = .ok (.getfield 51, 3) := by decide +kernel
theorem dX1_train_4 : decode cX1_train 4 = .ok (.iconst 4, 1) := by decide +kernel
theorem dX1_train_5 : decode cX1_train 5 = .ok (.if_icmp .lt 6, 3) := by decide +kernel
theorem dX1_train_8 : decode cX1_train 8 = .ok (.bipush (-3), 2) := by decide +kernel
theorem dX1_train_10 : decode cX1_train 10 = .ok (.ireturn, 1) := by decide +kernel
theorem dX1_train_11 : decode cX1_train 11 = .ok (.aload_n 0, 1) := by decide +kernel
theorem dX1_train_12 : decode cX1_train 12 = .ok (.getfield 51, 3) := by decide +kernel
theorem dX1_train_15 : decode cX1_train 15 = .ok (.istore_n 1, 1) := by decide +kernel
theorem dX1_train_16 : decode cX1_train 16 = .ok (.iconst 0, 1) := by decide +kernel
theorem dX1_train_17 : decode cX1_train 17 = .ok (.istore_n 2, 1) := by decide +kernel
theorem dX1_train_18 : decode cX1_train 18 = .ok (.iload_n 2, 1) := by decide +kernel
theorem dX1_train_19 : decode cX1_train 19 = .ok (.aload_n 0, 1) := by decide +kernel
theorem dX1_train_20 : decode cX1_train 20 = .ok (.getfield 44, 3) := by decide +kernel
theorem dX1_train_23 : decode cX1_train 23 = .ok (.if_icmp .ge 27, 3) := by decide +kernel
theorem dX1_train_26 : decode cX1_train 26 = .ok (.aload_n 0, 1) := by decide +kernel
theorem dX1_train_27 : decode cX1_train 27 = .ok (.getfield 28, 3) := by decide +kernel
theorem dX1_train_30 : decode cX1_train 30 = .ok (.iload_n 2, 1) := by decide +kernel
theorem dX1_train_31 : decode cX1_train 31 = .ok (.aload_n 0, 1) := by decide +kernel
theorem dX1_train_32 : decode cX1_train 32 = .ok (.iload_n 2, 1) := by decide +kernel
theorem dX1_train_33 : decode cX1_train 33 = .ok (.invokevirtual 105, 3) := by decide +kernel
theorem dX1_train_36 : decode cX1_train 36 = .ok (.iastore, 1) := by decide +kernel
theorem dX1_train_37 : decode cX1_train 37 = .ok (.aload_n 0, 1) := by decide +kernel
theorem dX1_train_38 : decode cX1_train 38 = .ok (.getfield 31, 3) := by decide +kernel
theorem dX1_train_41 : decode cX1_train 41 = .ok (.iload_n 2, 1) := by decide +kernel
theorem dX1_train_42 : decode cX1_train 42 = .ok (.iconst 0, 1) := by decide +kernel
theorem dX1_train_43 : decode cX1_train 43 = .ok (.iastore, 1) := by decide +kernel
theorem dX1_train_44 : decode cX1_train 44 = .ok (.iinc 2 1, 3) := by decide +kernel
theorem dX1_train_47 : decode cX1_train 47 = .ok (.goto (-29), 3) := by decide +kernel
theorem dX1_train_50 : decode cX1_train 50 = .ok (.iconst 0, 1) := by decide +kernel
theorem dX1_train_51 : decode cX1_train 51 = .ok (.istore_n 2, 1) := by decide +kernel
theorem dX1_train_52 : decode cX1_train 52 = .ok (.iload_n 2, 1) := by decide +kernel
theorem dX1_train_53 : decode cX1_train 53 = .ok (.bipush 7, 2) := by decide +kernel
theorem dX1_train_55 : decode cX1_train 55 = .ok (.if_icmp .ge 46, 3) := by decide +kernel
theorem dX1_train_58 : decode cX1_train 58 = .ok (.aload_n 0, 1) := by decide +kernel
theorem dX1_train_59 : decode cX1_train 59 = .ok (.getfield 16, 3) := by decide +kernel
theorem dX1_train_62 : decode cX1_train 62 = .ok (.iload_n 1, 1) := by decide +kernel
theorem dX1_train_63 : decode cX1_train 63 = .ok (.bipush 7, 2) := by decide +kernel
theorem dX1_train_65 : decode cX1_train 65 = .ok (.imul, 1) := by decide +kernel
theorem dX1_train_66 : decode cX1_train 66 = .ok (.iload_n 2, 1) := by decide +kernel
theorem dX1_train_67 : decode cX1_train 67 = .ok (.iadd, 1) := by decide +kernel
theorem dX1_train_68 : decode cX1_train 68 = .ok (.bipush (-7), 2) := by decide +kernel
theorem dX1_train_70 : decode cX1_train 70 = .ok (.iastore, 1) := by decide +kernel
theorem dX1_train_71 : decode cX1_train 71 = .ok (.aload_n 0, 1) := by decide +kernel
theorem dX1_train_72 : decode cX1_train 72 = .ok (.getfield 22, 3) := by decide +kernel
theorem dX1_train_75 : decode cX1_train 75 = .ok (.iload_n 1, 1) := by decide +kernel
theorem dX1_train_76 : decode cX1_train 76 = .ok (.bipush 7, 2) := by decide +kernel
theorem dX1_train_78 : decode cX1_train 78 = .ok (.imul, 1) := by decide +kernel
theorem dX1_train_79 : decode cX1_train 79 = .ok (.iload_n 2, 1) := by decide +kernel
theorem dX1_train_80 : decode cX1_train 80 = .ok (.iadd, 1) := by decide +kernel
theorem dX1_train_81 : decode cX1_train 81 = .ok (.iconst 0, 1) := by decide +kernel
theorem dX1_train_82 : decode cX1_train 82 = .ok (.iastore, 1) := by decide +kernel
theorem dX1_train_83 : decode cX1_train 83 = .ok (.aload_n 0, 1) := by decide +kernel
theorem dX1_train_84 : decode cX1_train 84 = .ok (.getfield 25, 3) := by decide +kernel
theorem dX1_train_87 : decode cX1_train 87 = .ok (.iload_n 1, 1) := by decide +kernel
theorem dX1_train_88 : decode cX1_train 88 = .ok (.bipush 7, 2) := by decide +kernel
theorem dX1_train_90 : decode cX1_train 90 = .ok (.imul, 1) := by decide +kernel
theorem dX1_train_91 : decode cX1_train 91 = .ok (.iload_n 2, 1) := by decide +kernel
theorem dX1_train_92 : decode cX1_train 92 = .ok (.iadd, 1) := by decide +kernel
theorem dX1_train_93 : decode cX1_train 93 = .ok (.iconst 0, 1) := by decide +kernel
theorem dX1_train_94 : decode cX1_train 94 = .ok (.iastore, 1) := by decide +kernel
theorem dX1_train_95 : decode cX1_train 95 = .ok (.iinc 2 1, 3) := by decide +kernel
theorem dX1_train_98 : decode cX1_train 98 = .ok (.goto (-46), 3) := by decide +kernel
theorem dX1_train_101 : decode cX1_train 101 = .ok (.aload_n 0, 1) := by decide +kernel
theorem dX1_train_102 : decode cX1_train 102 = .ok (.iconst 0, 1) := by decide +kernel
theorem dX1_train_103 : decode cX1_train 103 = .ok (.invokevirtual 99, 3) := by decide +kernel
theorem dX1_train_106 : decode cX1_train 106 = .ok (.iconst 0, 1) := by decide +kernel
theorem dX1_train_107 : decode cX1_train 107 = .ok (.istore_n 2, 1) := by decide +kernel
theorem dX1_train_108 : decode cX1_train 108 = .ok (.iconst 0, 1) := by decide +kernel
theorem dX1_train_109 : decode cX1_train 109 = .ok (.istore_n 3, 1) := by decide +kernel
theorem dX1_train_110 : decode cX1_train 110 = .ok (.iload_n 3, 1) := by decide +kernel
theorem dX1_train_111 : decode cX1_train 111 = .ok (.bipush 7, 2) := by decide +kernel
theorem dX1_train_113 : decode cX1_train 113 = .ok (.if_icmp .ge 52, 3) := by decide +kernel
theorem dX1_train_116 : decode cX1_train 116 = .ok (.iload_n 3, 1) := by decide +kernel
theorem dX1_train_117 : decode cX1_train 117 = .ok (.ifCond .eq 21, 3) := by decide +kernel
theorem dX1_train_120 : decode cX1_train 120 = .ok (.aload_n 0, 1) := by decide +kernel
theorem dX1_train_121 : decode cX1_train 121 = .ok (.getfield 16, 3) := by decide +kernel
theorem dX1_train_124 : decode cX1_train 124 = .ok (.iload_n 1, 1) := by decide +kernel
theorem dX1_train_125 : decode cX1_train 125 = .ok (.bipush 7, 2) := by decide +kernel
theorem dX1_train_127 : decode cX1_train 127 = .ok (.imul, 1) := by decide +kernel
theorem dX1_train_128 : decode cX1_train 128 = .ok (.iload_n 3, 1) := by decide +kernel
theorem dX1_train_129 : decode cX1_train 129 = .ok (.iconst 1, 1) := by decide +kernel
theorem dX1_train_130 : decode cX1_train 130 = .ok (.isub, 1) := by decide +kernel
theorem dX1_train_131 : decode cX1_train 131 = .ok (.iconst 2, 1) := by decide +kernel
theorem dX1_train_132 : decode cX1_train 132 = .ok (.idiv, 1) := by decide +kernel
theorem dX1_train_133 : decode cX1_train 133 = .ok (.iadd, 1) := by decide +kernel
theorem dX1_train_134 : decode cX1_train 134 = .ok (.iaload, 1) := by decide +kernel
theorem dX1_train_135 : decode cX1_train 135 = .ok (.ifCond .lt 7, 3) := by decide +kernel
theorem dX1_train_138 : decode cX1_train 138 = .ok (.iconst 1, 1) := by decide +kernel
theorem dX1_train_139 : decode cX1_train 139 = .ok (.goto 4, 3) := by decide +kernel
theorem dX1_train_142 : decode cX1_train 142 = .ok (.iconst 0, 1) := by decide +kernel
theorem dX1_train_143 : decode cX1_train 143 = .ok (.istore 4, 2) := by decide +kernel
theorem dX1_train_145 : decode cX1_train 145 = .ok (.iload 4, 2) := by decide +kernel
theorem dX1_train_147 : decode cX1_train 147 = .ok (.ifCond .eq 12, 3) := by decide +kernel
theorem dX1_train_150 : decode cX1_train 150 = .ok (.iload_n 2, 1) := by decide +kernel
theorem dX1_train_151 : decode cX1_train 151 = .ok (.aload_n 0, 1) := by decide +kernel
theorem dX1_train_152 : decode cX1_train 152 = .ok (.iload_n 1, 1) := by decide +kernel
theorem dX1_train_153 : decode cX1_train 153 = .ok (.iload_n 3, 1) := by decide +kernel
theorem dX1_train_154 : decode cX1_train 154 = .ok (.invokevirtual 108, 3) := by decide +kernel
theorem dX1_train_157 : decode cX1_train 157 = .ok (.iadd, 1) := by decide +kernel
theorem dX1_train_158 : decode cX1_train 158 = .ok (.istore_n 2, 1) := by decide +kernel
theorem dX1_train_159 : decode cX1_train 159 = .ok (.iinc 3 1, 3) := by decide +kernel
theorem dX1_train_162 : decode cX1_train 162 = .ok (.goto (-52), 3) := by decide +kernel
theorem dX1_train_165 : decode cX1_train 165 = .ok (.aload_n 0, 1) := by decide +kernel
theorem dX1_train_166 : decode cX1_train 166 = .ok (.dup, 1) := by decide +kernel
theorem dX1_train_167 : decode cX1_train 167 = .ok (.getfield 51, 3) := by decide +kernel
theorem dX1_train_170 : decode cX1_train 170 = .ok (.iconst 1, 1) := by decide +kernel
theorem dX1_train_171 : decode cX1_train 171 = .ok (.iadd, 1) := by decide +kernel
theorem dX1_train_172 : decode cX1_train 172 = .ok (.putfield 51, 3) := by decide +kernel
theorem dX1_train_175 : decode cX1_train 175 = .ok (.iload_n 2, 1) := by decide +kernel
theorem dX1_train_176 : decode cX1_train 176 = .ok (.ireturn, 1) := by decide +kernel
theorem dX1_restOf_0 : decode cX1_restOf 0 = .ok (.aload_n 0, 1) := by decide +kernel
theorem dX1_restOf_1 : decode cX1_restOf 1 = .ok (.aload_n 0, 1) := by decide +kernel
theorem dX1_restOf_2 : decode cX1_restOf 2 = .ok (.getfield 7, 3) := by decide +kernel
theorem dX1_restOf_5 : decode cX1_restOf 5 = .ok (.iload_n 1, 1) := by decide +kernel
theorem dX1_restOf_6 : decode cX1_restOf 6 = .ok (.iaload, 1) := by decide +kernel
theorem dX1_restOf_7 : decode cX1_restOf 7 = .ok (.invokevirtual 57, 3) := by decide +kernel
theorem dX1_restOf_10 : decode cX1_restOf 10 = .ok (.istore_n 2, 1) := by decide +kernel
theorem dX1_restOf_11 : decode cX1_restOf 11 = .ok (.aload_n 0, 1) := by decide +kernel
theorem dX1_restOf_12 : decode cX1_restOf 12 = .ok (.getfield 13, 3) := by decide +kernel
theorem dX1_restOf_15 : decode cX1_restOf 15 = .ok (.iload_n 1, 1) := by decide +kernel
theorem dX1_restOf_16 : decode cX1_restOf 16 = .ok (.iaload, 1) := by decide +kernel
theorem dX1_restOf_17 : decode cX1_restOf 17 = .ok (.iload_n 2, 1) := by decide +kernel
theorem dX1_restOf_18 : decode cX1_restOf 18 = .ok (.isub, 1) := by decide +kernel
theorem dX1_restOf_19 : decode cX1_restOf 19 = .ok (.ireturn, 1) := by decide +kernel
theorem dX1_predictAll_0 : decode cX1_predictAll 0 = .ok (.iconst 0, 1) := by decide +kernel
theorem dX1_predictAll_1 : decode cX1_predictAll 1 = .ok (.istore_n 2, 1) := by decide +kernel
theorem dX1_predictAll_2 : decode cX1_predictAll 2 = .ok (.iconst 0, 1) := by decide +kernel
theorem dX1_predictAll_3 : decode cX1_predictAll 3 = .ok (.istore_n 3, 1) := by decide +kernel
theorem dX1_predictAll_4 : decode cX1_predictAll 4 = .ok (.iload_n 3, 1) := by decide +kernel
theorem dX1_predictAll_5 : decode cX1_predictAll 5 = .ok (.aload_n 0, 1) := by decide +kernel
theorem dX1_predictAll_6 : decode cX1_predictAll 6 = .ok (.getfield 51, 3) := by decide +kernel
theorem dX1_predictAll_9 : decode cX1_predictAll 9 = .ok (.if_icmp .ge 18, 3) := by decide +kernel
theorem dX1_predictAll_12 : decode cX1_predictAll 12 = .ok (.iload_n 2, 1) := by decide +kernel
theorem dX1_predictAll_13 : decode cX1_predictAll 13 = .ok (.aload_n 0, 1) := by decide +kernel
theorem dX1_predictAll_14 : decode cX1_predictAll 14 = .ok (.iload_n 3, 1) := by decide +kernel
theorem dX1_predictAll_15 : decode cX1_predictAll 15 = .ok (.iload_n 1, 1) := by decide +kernel
theorem dX1_predictAll_16 : decode cX1_predictAll 16 = .ok (.invokevirtual 54, 3) := by decide +kernel
theorem dX1_predictAll_19 : decode cX1_predictAll 19 = .ok (.iadd, 1) := by decide +kernel
theorem dX1_predictAll_20 : decode cX1_predictAll 20 = .ok (.istore_n 2, 1) := by decide +kernel
theorem dX1_predictAll_21 : decode cX1_predictAll 21 = .ok (.iinc 3 1, 3) := by decide +kernel
theorem dX1_predictAll_24 : decode cX1_predictAll 24 = .ok (.goto (-20), 3) := by decide +kernel
theorem dX1_predictAll_27 : decode cX1_predictAll 27 = .ok (.iload_n 2, 1) := by decide +kernel
theorem dX1_predictAll_28 : decode cX1_predictAll 28 = .ok (.ireturn, 1) := by decide +kernel
theorem dX1_predictBy_0 : decode cX1_predictBy 0 = .ok (.iconst 0, 1) := by decide +kernel
theorem dX1_predictBy_1 : decode cX1_predictBy 1 = .ok (.istore_n 3, 1) := by decide +kernel
theorem dX1_predictBy_2 : decode cX1_predictBy 2 = .ok (.iconst 0, 1) := by decide +kernel
theorem dX1_predictBy_3 : decode cX1_predictBy 3 = .ok (.istore 4, 2) := by decide +kernel
theorem dX1_predictBy_5 : decode cX1_predictBy 5 = .ok (.iload 4, 2) := by decide +kernel
theorem dX1_predictBy_7 : decode cX1_predictBy 7 = .ok (.iconst 2, 1) := by decide +kernel
theorem dX1_predictBy_8 : decode cX1_predictBy 8 = .ok (.if_icmp .ge 70, 3) := by decide +kernel
theorem dX1_predictBy_11 : decode cX1_predictBy 11 = .ok (.aload_n 0, 1) := by decide +kernel
theorem dX1_predictBy_12 : decode cX1_predictBy 12 = .ok (.getfield 16, 3) := by decide +kernel
theorem dX1_predictBy_15 : decode cX1_predictBy 15 = .ok (.iload_n 1, 1) := by decide +kernel
theorem dX1_predictBy_16 : decode cX1_predictBy 16 = .ok (.bipush 7, 2) := by decide +kernel
theorem dX1_predictBy_18 : decode cX1_predictBy 18 = .ok (.imul, 1) := by decide +kernel
theorem dX1_predictBy_19 : decode cX1_predictBy 19 = .ok (.iload_n 3, 1) := by decide +kernel
theorem dX1_predictBy_20 : decode cX1_predictBy 20 = .ok (.iadd, 1) := by decide +kernel
theorem dX1_predictBy_21 : decode cX1_predictBy 21 = .ok (.iaload, 1) := by decide +kernel
theorem dX1_predictBy_22 : decode cX1_predictBy 22 = .ok (.ifCond .lt 56, 3) := by decide +kernel
theorem dX1_predictBy_25 : decode cX1_predictBy 25 = .ok (.iload_n 1, 1) := by decide +kernel
theorem dX1_predictBy_26 : decode cX1_predictBy 26 = .ok (.bipush 7, 2) := by decide +kernel
theorem dX1_predictBy_28 : decode cX1_predictBy 28 = .ok (.imul, 1) := by decide +kernel
theorem dX1_predictBy_29 : decode cX1_predictBy 29 = .ok (.iload_n 3, 1) := by decide +kernel
theorem dX1_predictBy_30 : decode cX1_predictBy 30 = .ok (.iadd, 1) := by decide +kernel
theorem dX1_predictBy_31 : decode cX1_predictBy 31 = .ok (.istore 5, 2) := by decide +kernel
theorem dX1_predictBy_33 : decode cX1_predictBy 33 = .ok (.iload_n 2, 1) := by decide +kernel
theorem dX1_predictBy_34 : decode cX1_predictBy 34 = .ok (.aload_n 0, 1) := by decide +kernel
theorem dX1_predictBy_35 : decode cX1_predictBy 35 = .ok (.getfield 16, 3) := by decide +kernel
theorem dX1_predictBy_38 : decode cX1_predictBy 38 = .ok (.iload 5, 2) := by decide +kernel
theorem dX1_predictBy_40 : decode cX1_predictBy 40 = .ok (.iaload, 1) := by decide +kernel
theorem dX1_predictBy_41 : decode cX1_predictBy 41 = .ok (.invokestatic 47, 3) := by decide +kernel
theorem dX1_predictBy_44 : decode cX1_predictBy 44 = .ok (.istore 6, 2) := by decide +kernel
theorem dX1_predictBy_46 : decode cX1_predictBy 46 = .ok (.iload 6, 2) := by decide +kernel
theorem dX1_predictBy_48 : decode cX1_predictBy 48 = .ok (.aload_n 0, 1) := by decide +kernel
theorem dX1_predictBy_49 : decode cX1_predictBy 49 = .ok (.getfield 19, 3) := by decide +kernel
theorem dX1_predictBy_52 : decode cX1_predictBy 52 = .ok (.iload 5, 2) := by decide +kernel
theorem dX1_predictBy_54 : decode cX1_predictBy 54 = .ok (.iaload, 1) := by decide +kernel
theorem dX1_predictBy_55 : decode cX1_predictBy 55 = .ok (.if_icmp .gt 11, 3) := by decide +kernel
theorem dX1_predictBy_58 : decode cX1_predictBy 58 = .ok (.iconst 2, 1) := by decide +kernel
theorem dX1_predictBy_59 : decode cX1_predictBy 59 = .ok (.iload_n 3, 1) := by decide +kernel
theorem dX1_predictBy_60 : decode cX1_predictBy 60 = .ok (.imul, 1) := by decide +kernel
theorem dX1_predictBy_61 : decode cX1_predictBy 61 = .ok (.iconst 1, 1) := by decide +kernel
theorem dX1_predictBy_62 : decode cX1_predictBy 62 = .ok (.iadd, 1) := by decide +kernel
theorem dX1_predictBy_63 : decode cX1_predictBy 63 = .ok (.goto 8, 3) := by decide +kernel
theorem dX1_predictBy_66 : decode cX1_predictBy 66 = .ok (.iconst 2, 1) := by decide +kernel
theorem dX1_predictBy_67 : decode cX1_predictBy 67 = .ok (.iload_n 3, 1) := by decide +kernel
theorem dX1_predictBy_68 : decode cX1_predictBy 68 = .ok (.imul, 1) := by decide +kernel
theorem dX1_predictBy_69 : decode cX1_predictBy 69 = .ok (.iconst 2, 1) := by decide +kernel
theorem dX1_predictBy_70 : decode cX1_predictBy 70 = .ok (.iadd, 1) := by decide +kernel
theorem dX1_predictBy_71 : decode cX1_predictBy 71 = .ok (.istore_n 3, 1) := by decide +kernel
theorem dX1_predictBy_72 : decode cX1_predictBy 72 = .ok (.iinc 4 1, 3) := by decide +kernel
theorem dX1_predictBy_75 : decode cX1_predictBy 75 = .ok (.goto (-70), 3) := by decide +kernel
theorem dX1_predictBy_78 : decode cX1_predictBy 78 = .ok (.aload_n 0, 1) := by decide +kernel
theorem dX1_predictBy_79 : decode cX1_predictBy 79 = .ok (.getfield 22, 3) := by decide +kernel
theorem dX1_predictBy_82 : decode cX1_predictBy 82 = .ok (.iload_n 1, 1) := by decide +kernel
theorem dX1_predictBy_83 : decode cX1_predictBy 83 = .ok (.bipush 7, 2) := by decide +kernel
theorem dX1_predictBy_85 : decode cX1_predictBy 85 = .ok (.imul, 1) := by decide +kernel
theorem dX1_predictBy_86 : decode cX1_predictBy 86 = .ok (.iload_n 3, 1) := by decide +kernel
theorem dX1_predictBy_87 : decode cX1_predictBy 87 = .ok (.iadd, 1) := by decide +kernel
theorem dX1_predictBy_88 : decode cX1_predictBy 88 = .ok (.iaload, 1) := by decide +kernel
theorem dX1_predictBy_89 : decode cX1_predictBy 89 = .ok (.ireturn, 1) := by decide +kernel
theorem dX1_featureOf_0 : decode cX1_featureOf 0 = .ok (.iload_n 0, 1) := by decide +kernel
theorem dX1_featureOf_1 : decode cX1_featureOf 1 = .ok (.iconst 3, 1) := by decide +kernel
theorem dX1_featureOf_2 : decode cX1_featureOf 2 = .ok (.iload_n 1, 1) := by decide +kernel
theorem dX1_featureOf_3 : decode cX1_featureOf 3 = .ok (.imul, 1) := by decide +kernel
theorem dX1_featureOf_4 : decode cX1_featureOf 4 = .ok (.ishr, 1) := by decide +kernel
theorem dX1_featureOf_5 : decode cX1_featureOf 5 = .ok (.bipush 7, 2) := by decide +kernel
theorem dX1_featureOf_7 : decode cX1_featureOf 7 = .ok (.iand, 1) := by decide +kernel
theorem dX1_featureOf_8 : decode cX1_featureOf 8 = .ok (.ireturn, 1) := by decide +kernel
theorem dX1_fromRows_0 : decode cX1_fromRows 0 = .ok (.aload_n 0, 1) := by decide +kernel
theorem dX1_fromRows_1 : decode cX1_fromRows 1 = .ok (.iload_n 1, 1) := by decide +kernel
theorem dX1_fromRows_2 : decode cX1_fromRows 2 = .ok (.invokevirtual 61, 3) := by decide +kernel
theorem dX1_fromRows_5 : decode cX1_fromRows 5 = .ok (.iconst 0, 1) := by decide +kernel
theorem dX1_fromRows_6 : decode cX1_fromRows 6 = .ok (.istore_n 2, 1) := by decide +kernel
theorem dX1_fromRows_7 : decode cX1_fromRows 7 = .ok (.iload_n 2, 1) := by decide +kernel
theorem dX1_fromRows_8 : decode cX1_fromRows 8 = .ok (.aload_n 0, 1) := by decide +kernel
end
section
set_option maxRecDepth 100000
theorem dX1_fromRows_9 : decode cX1_fromRows 9 = .ok (.getfield 44, 3) := by decide +kernel
theorem dX1_fromRows_12 : decode cX1_fromRows 12 = .ok (.if_icmp .ge 25, 3) := by decide +kernel
theorem dX1_fromRows_15 : decode cX1_fromRows 15 = .ok (.aload_n 0, 1) := by decide +kernel
theorem dX1_fromRows_16 : decode cX1_fromRows 16 = .ok (.getfield 31, 3) := by decide +kernel
theorem dX1_fromRows_19 : decode cX1_fromRows 19 = .ok (.iload_n 2, 1) := by decide +kernel
theorem dX1_fromRows_20 : decode cX1_fromRows 20 = .ok (.iaload, 1) := by decide +kernel
theorem dX1_fromRows_21 : decode cX1_fromRows 21 = .ok (.iload_n 1, 1) := by decide +kernel
theorem dX1_fromRows_22 : decode cX1_fromRows 22 = .ok (.if_icmp .ne 9, 3) := by decide +kernel
theorem dX1_fromRows_25 : decode cX1_fromRows 25 = .ok (.aload_n 0, 1) := by decide +kernel
theorem dX1_fromRows_26 : decode cX1_fromRows 26 = .ok (.iload_n 1, 1) := by decide +kernel
theorem dX1_fromRows_27 : decode cX1_fromRows 27 = .ok (.iload_n 2, 1) := by decide +kernel
theorem dX1_fromRows_28 : decode cX1_fromRows 28 = .ok (.invokevirtual 65, 3) := by decide +kernel
theorem dX1_fromRows_31 : decode cX1_fromRows 31 = .ok (.iinc 2 1, 3) := by decide +kernel
theorem dX1_fromRows_34 : decode cX1_fromRows 34 = .ok (.goto (-27), 3) := by decide +kernel
theorem dX1_fromRows_37 : decode cX1_fromRows 37 = .ok (.return_, 1) := by decide +kernel
theorem dX1_clearCells_0 : decode cX1_clearCells 0 = .ok (.iconst 0, 1) := by decide +kernel
theorem dX1_clearCells_1 : decode cX1_clearCells 1 = .ok (.istore_n 2, 1) := by decide +kernel
theorem dX1_clearCells_2 : decode cX1_clearCells 2 = .ok (.iload_n 2, 1) := by decide +kernel
theorem dX1_clearCells_3 : decode cX1_clearCells 3 = .ok (.bipush 24, 2) := by decide +kernel
theorem dX1_clearCells_5 : decode cX1_clearCells 5 = .ok (.if_icmp .ge 33, 3) := by decide +kernel
theorem dX1_clearCells_8 : decode cX1_clearCells 8 = .ok (.aload_n 0, 1) := by decide +kernel
theorem dX1_clearCells_9 : decode cX1_clearCells 9 = .ok (.getfield 34, 3) := by decide +kernel
theorem dX1_clearCells_12 : decode cX1_clearCells 12 = .ok (.iload_n 1, 1) := by decide +kernel
theorem dX1_clearCells_13 : decode cX1_clearCells 13 = .ok (.bipush 24, 2) := by decide +kernel
theorem dX1_clearCells_15 : decode cX1_clearCells 15 = .ok (.imul, 1) := by decide +kernel
theorem dX1_clearCells_16 : decode cX1_clearCells 16 = .ok (.iload_n 2, 1) := by decide +kernel
theorem dX1_clearCells_17 : decode cX1_clearCells 17 = .ok (.iadd, 1) := by decide +kernel
theorem dX1_clearCells_18 : decode cX1_clearCells 18 = .ok (.iconst 0, 1) := by decide +kernel
theorem dX1_clearCells_19 : decode cX1_clearCells 19 = .ok (.iastore, 1) := by decide +kernel
theorem dX1_clearCells_20 : decode cX1_clearCells 20 = .ok (.aload_n 0, 1) := by decide +kernel
theorem dX1_clearCells_21 : decode cX1_clearCells 21 = .ok (.getfield 37, 3) := by decide +kernel
theorem dX1_clearCells_24 : decode cX1_clearCells 24 = .ok (.iload_n 1, 1) := by decide +kernel
theorem dX1_clearCells_25 : decode cX1_clearCells 25 = .ok (.bipush 24, 2) := by decide +kernel
theorem dX1_clearCells_27 : decode cX1_clearCells 27 = .ok (.imul, 1) := by decide +kernel
theorem dX1_clearCells_28 : decode cX1_clearCells 28 = .ok (.iload_n 2, 1) := by decide +kernel
theorem dX1_clearCells_29 : decode cX1_clearCells 29 = .ok (.iadd, 1) := by decide +kernel
theorem dX1_clearCells_30 : decode cX1_clearCells 30 = .ok (.iconst 0, 1) := by decide +kernel
theorem dX1_clearCells_31 : decode cX1_clearCells 31 = .ok (.iastore, 1) := by decide +kernel
theorem dX1_clearCells_32 : decode cX1_clearCells 32 = .ok (.iinc 2 1, 3) := by decide +kernel
theorem dX1_clearCells_35 : decode cX1_clearCells 35 = .ok (.goto (-33), 3) := by decide +kernel
theorem dX1_clearCells_38 : decode cX1_clearCells 38 = .ok (.return_, 1) := by decide +kernel
theorem dX1_addRow_0 : decode cX1_addRow 0 = .ok (.iconst 0, 1) := by decide +kernel
theorem dX1_addRow_1 : decode cX1_addRow 1 = .ok (.istore_n 3, 1) := by decide +kernel
theorem dX1_addRow_2 : decode cX1_addRow 2 = .ok (.iload_n 3, 1) := by decide +kernel
theorem dX1_addRow_3 : decode cX1_addRow 3 = .ok (.iconst 3, 1) := by decide +kernel
theorem dX1_addRow_4 : decode cX1_addRow 4 = .ok (.if_icmp .ge 58, 3) := by decide +kernel
theorem dX1_addRow_7 : decode cX1_addRow 7 = .ok (.iload_n 1, 1) := by decide +kernel
theorem dX1_addRow_8 : decode cX1_addRow 8 = .ok (.bipush 24, 2) := by decide +kernel
theorem dX1_addRow_10 : decode cX1_addRow 10 = .ok (.imul, 1) := by decide +kernel
theorem dX1_addRow_11 : decode cX1_addRow 11 = .ok (.iload_n 3, 1) := by decide +kernel
theorem dX1_addRow_12 : decode cX1_addRow 12 = .ok (.bipush 8, 2) := by decide +kernel
theorem dX1_addRow_14 : decode cX1_addRow 14 = .ok (.imul, 1) := by decide +kernel
theorem dX1_addRow_15 : decode cX1_addRow 15 = .ok (.iadd, 1) := by decide +kernel
theorem dX1_addRow_16 : decode cX1_addRow 16 = .ok (.aload_n 0, 1) := by decide +kernel
theorem dX1_addRow_17 : decode cX1_addRow 17 = .ok (.getfield 7, 3) := by decide +kernel
theorem dX1_addRow_20 : decode cX1_addRow 20 = .ok (.iload_n 2, 1) := by decide +kernel
theorem dX1_addRow_21 : decode cX1_addRow 21 = .ok (.iaload, 1) := by decide +kernel
theorem dX1_addRow_22 : decode cX1_addRow 22 = .ok (.iload_n 3, 1) := by decide +kernel
theorem dX1_addRow_23 : decode cX1_addRow 23 = .ok (.invokestatic 47, 3) := by decide +kernel
theorem dX1_addRow_26 : decode cX1_addRow 26 = .ok (.iadd, 1) := by decide +kernel
theorem dX1_addRow_27 : decode cX1_addRow 27 = .ok (.istore 4, 2) := by decide +kernel
theorem dX1_addRow_29 : decode cX1_addRow 29 = .ok (.aload_n 0, 1) := by decide +kernel
theorem dX1_addRow_30 : decode cX1_addRow 30 = .ok (.getfield 34, 3) := by decide +kernel
theorem dX1_addRow_33 : decode cX1_addRow 33 = .ok (.iload 4, 2) := by decide +kernel
theorem dX1_addRow_35 : decode cX1_addRow 35 = .ok (.dup2, 1) := by decide +kernel
theorem dX1_addRow_36 : decode cX1_addRow 36 = .ok (.iaload, 1) := by decide +kernel
theorem dX1_addRow_37 : decode cX1_addRow 37 = .ok (.iconst 1, 1) := by decide +kernel
theorem dX1_addRow_38 : decode cX1_addRow 38 = .ok (.iadd, 1) := by decide +kernel
theorem dX1_addRow_39 : decode cX1_addRow 39 = .ok (.iastore, 1) := by decide +kernel
theorem dX1_addRow_40 : decode cX1_addRow 40 = .ok (.aload_n 0, 1) := by decide +kernel
theorem dX1_addRow_41 : decode cX1_addRow 41 = .ok (.getfield 37, 3) := by decide +kernel
theorem dX1_addRow_44 : decode cX1_addRow 44 = .ok (.iload 4, 2) := by decide +kernel
theorem dX1_addRow_46 : decode cX1_addRow 46 = .ok (.dup2, 1) := by decide +kernel
theorem dX1_addRow_47 : decode cX1_addRow 47 = .ok (.iaload, 1) := by decide +kernel
theorem dX1_addRow_48 : decode cX1_addRow 48 = .ok (.aload_n 0, 1) := by decide +kernel
theorem dX1_addRow_49 : decode cX1_addRow 49 = .ok (.getfield 28, 3) := by decide +kernel
theorem dX1_addRow_52 : decode cX1_addRow 52 = .ok (.iload_n 2, 1) := by decide +kernel
theorem dX1_addRow_53 : decode cX1_addRow 53 = .ok (.iaload, 1) := by decide +kernel
theorem dX1_addRow_54 : decode cX1_addRow 54 = .ok (.iadd, 1) := by decide +kernel
theorem dX1_addRow_55 : decode cX1_addRow 55 = .ok (.iastore, 1) := by decide +kernel
theorem dX1_addRow_56 : decode cX1_addRow 56 = .ok (.iinc 3 1, 3) := by decide +kernel
theorem dX1_addRow_59 : decode cX1_addRow 59 = .ok (.goto (-57), 3) := by decide +kernel
theorem dX1_addRow_62 : decode cX1_addRow 62 = .ok (.return_, 1) := by decide +kernel
theorem dX1_grow_0 : decode cX1_grow 0 = .ok (.aload_n 0, 1) := by decide +kernel
theorem dX1_grow_1 : decode cX1_grow 1 = .ok (.iload_n 1, 1) := by decide +kernel
theorem dX1_grow_2 : decode cX1_grow 2 = .ok (.iload_n 2, 1) := by decide +kernel
theorem dX1_grow_3 : decode cX1_grow 3 = .ok (.invokevirtual 111, 3) := by decide +kernel
theorem dX1_grow_6 : decode cX1_grow 6 = .ok (.istore_n 3, 1) := by decide +kernel
theorem dX1_grow_7 : decode cX1_grow 7 = .ok (.iload_n 3, 1) := by decide +kernel
theorem dX1_grow_8 : decode cX1_grow 8 = .ok (.ifCond .eq 9, 3) := by decide +kernel
theorem dX1_grow_11 : decode cX1_grow 11 = .ok (.aload_n 0, 1) := by decide +kernel
theorem dX1_grow_12 : decode cX1_grow 12 = .ok (.iload_n 1, 1) := by decide +kernel
theorem dX1_grow_13 : decode cX1_grow 13 = .ok (.iload_n 2, 1) := by decide +kernel
theorem dX1_grow_14 : decode cX1_grow 14 = .ok (.invokevirtual 115, 3) := by decide +kernel
theorem dX1_grow_17 : decode cX1_grow 17 = .ok (.iload_n 3, 1) := by decide +kernel
theorem dX1_grow_18 : decode cX1_grow 18 = .ok (.ifCond .eq 7, 3) := by decide +kernel
theorem dX1_grow_21 : decode cX1_grow 21 = .ok (.iconst 0, 1) := by decide +kernel
theorem dX1_grow_22 : decode cX1_grow 22 = .ok (.goto 4, 3) := by decide +kernel
theorem dX1_grow_25 : decode cX1_grow 25 = .ok (.iconst 1, 1) := by decide +kernel
theorem dX1_grow_26 : decode cX1_grow 26 = .ok (.ireturn, 1) := by decide +kernel
theorem dX1_splitNode_0 : decode cX1_splitNode 0 = .ok (.iload_n 1, 1) := by decide +kernel
theorem dX1_splitNode_1 : decode cX1_splitNode 1 = .ok (.bipush 7, 2) := by decide +kernel
theorem dX1_splitNode_3 : decode cX1_splitNode 3 = .ok (.imul, 1) := by decide +kernel
theorem dX1_splitNode_4 : decode cX1_splitNode 4 = .ok (.iload_n 2, 1) := by decide +kernel
theorem dX1_splitNode_5 : decode cX1_splitNode 5 = .ok (.iadd, 1) := by decide +kernel
theorem dX1_splitNode_6 : decode cX1_splitNode 6 = .ok (.istore_n 3, 1) := by decide +kernel
theorem dX1_splitNode_7 : decode cX1_splitNode 7 = .ok (.aload_n 0, 1) := by decide +kernel
theorem dX1_splitNode_8 : decode cX1_splitNode 8 = .ok (.iload_n 2, 1) := by decide +kernel
theorem dX1_splitNode_9 : decode cX1_splitNode 9 = .ok (.invokevirtual 86, 3) := by decide +kernel
theorem dX1_splitNode_12 : decode cX1_splitNode 12 = .ok (.istore 4, 2) := by decide +kernel
theorem dX1_splitNode_14 : decode cX1_splitNode 14 = .ok (.aload_n 0, 1) := by decide +kernel
theorem dX1_splitNode_15 : decode cX1_splitNode 15 = .ok (.iload_n 2, 1) := by decide +kernel
theorem dX1_splitNode_16 : decode cX1_splitNode 16 = .ok (.invokevirtual 89, 3) := by decide +kernel
theorem dX1_splitNode_19 : decode cX1_splitNode 19 = .ok (.istore 5, 2) := by decide +kernel
theorem dX1_splitNode_21 : decode cX1_splitNode 21 = .ok (.aload_n 0, 1) := by decide +kernel
theorem dX1_splitNode_22 : decode cX1_splitNode 22 = .ok (.getfield 25, 3) := by decide +kernel
theorem dX1_splitNode_25 : decode cX1_splitNode 25 = .ok (.iload_n 3, 1) := by decide +kernel
theorem dX1_splitNode_26 : decode cX1_splitNode 26 = .ok (.iload 4, 2) := by decide +kernel
theorem dX1_splitNode_28 : decode cX1_splitNode 28 = .ok (.iastore, 1) := by decide +kernel
theorem dX1_splitNode_29 : decode cX1_splitNode 29 = .ok (.aload_n 0, 1) := by decide +kernel
theorem dX1_splitNode_30 : decode cX1_splitNode 30 = .ok (.iconst (-1), 1) := by decide +kernel
theorem dX1_splitNode_31 : decode cX1_splitNode 31 = .ok (.putfield 69, 3) := by decide +kernel
theorem dX1_splitNode_34 : decode cX1_splitNode 34 = .ok (.iload_n 2, 1) := by decide +kernel
theorem dX1_splitNode_35 : decode cX1_splitNode 35 = .ok (.iconst 3, 1) := by decide +kernel
theorem dX1_splitNode_36 : decode cX1_splitNode 36 = .ok (.if_icmp .ge 12, 3) := by decide +kernel
theorem dX1_splitNode_39 : decode cX1_splitNode 39 = .ok (.aload_n 0, 1) := by decide +kernel
theorem dX1_splitNode_40 : decode cX1_splitNode 40 = .ok (.iload_n 2, 1) := by decide +kernel
theorem dX1_splitNode_41 : decode cX1_splitNode 41 = .ok (.iload 4, 2) := by decide +kernel
theorem dX1_splitNode_43 : decode cX1_splitNode 43 = .ok (.iload 5, 2) := by decide +kernel
theorem dX1_splitNode_45 : decode cX1_splitNode 45 = .ok (.invokevirtual 92, 3) := by decide +kernel
theorem dX1_splitNode_48 : decode cX1_splitNode 48 = .ok (.iload 5, 2) := by decide +kernel
theorem dX1_splitNode_50 : decode cX1_splitNode 50 = .ok (.i2l, 1) := by decide +kernel
theorem dX1_splitNode_51 : decode cX1_splitNode 51 = .ok (.iload 5, 2) := by decide +kernel
theorem dX1_splitNode_53 : decode cX1_splitNode 53 = .ok (.i2l, 1) := by decide +kernel
theorem dX1_splitNode_54 : decode cX1_splitNode 54 = .ok (.lmul, 1) := by decide +kernel
theorem dX1_splitNode_55 : decode cX1_splitNode 55 = .ok (.lstore 6, 2) := by decide +kernel
theorem dX1_splitNode_57 : decode cX1_splitNode 57 = .ok (.aload_n 0, 1) := by decide +kernel
theorem dX1_splitNode_58 : decode cX1_splitNode 58 = .ok (.getfield 69, 3) := by decide +kernel
theorem dX1_splitNode_61 : decode cX1_splitNode 61 = .ok (.ifCond .lt 22, 3) := by decide +kernel
theorem dX1_splitNode_64 : decode cX1_splitNode 64 = .ok (.aload_n 0, 1) := by decide +kernel
theorem dX1_splitNode_65 : decode cX1_splitNode 65 = .ok (.getfield 76, 3) := by decide +kernel
theorem dX1_splitNode_68 : decode cX1_splitNode 68 = .ok (.iload 4, 2) := by decide +kernel
theorem dX1_splitNode_70 : decode cX1_splitNode 70 = .ok (.i2l, 1) := by decide +kernel
theorem dX1_splitNode_71 : decode cX1_splitNode 71 = .ok (.lmul, 1) := by decide +kernel
theorem dX1_splitNode_72 : decode cX1_splitNode 72 = .ok (.lload 6, 2) := by decide +kernel
theorem dX1_splitNode_74 : decode cX1_splitNode 74 = .ok (.aload_n 0, 1) := by decide +kernel
theorem dX1_splitNode_75 : decode cX1_splitNode 75 = .ok (.getfield 72, 3) := by decide +kernel
theorem dX1_splitNode_78 : decode cX1_splitNode 78 = .ok (.lmul, 1) := by decide +kernel
theorem dX1_splitNode_79 : decode cX1_splitNode 79 = .ok (.lcmp, 1) := by decide +kernel
theorem dX1_splitNode_80 : decode cX1_splitNode 80 = .ok (.ifCond .gt 14, 3) := by decide +kernel
theorem dX1_splitNode_83 : decode cX1_splitNode 83 = .ok (.aload_n 0, 1) := by decide +kernel
theorem dX1_splitNode_84 : decode cX1_splitNode 84 = .ok (.iload_n 3, 1) := by decide +kernel
theorem dX1_splitNode_85 : decode cX1_splitNode 85 = .ok (.iload 4, 2) := by decide +kernel
theorem dX1_splitNode_87 : decode cX1_splitNode 87 = .ok (.iload 5, 2) := by decide +kernel
theorem dX1_splitNode_89 : decode cX1_splitNode 89 = .ok (.invokevirtual 96, 3) := by decide +kernel
theorem dX1_splitNode_92 : decode cX1_splitNode 92 = .ok (.iconst 0, 1) := by decide +kernel
theorem dX1_splitNode_93 : decode cX1_splitNode 93 = .ok (.ireturn, 1) := by decide +kernel
theorem dX1_splitNode_94 : decode cX1_splitNode 94 = .ok (.aload_n 0, 1) := by decide +kernel
theorem dX1_splitNode_95 : decode cX1_splitNode 95 = .ok (.getfield 16, 3) := by decide +kernel
theorem dX1_splitNode_98 : decode cX1_splitNode 98 = .ok (.iload_n 3, 1) := by decide +kernel
theorem dX1_splitNode_99 : decode cX1_splitNode 99 = .ok (.aload_n 0, 1) := by decide +kernel
theorem dX1_splitNode_100 : decode cX1_splitNode 100 = .ok (.getfield 69, 3) := by decide +kernel
theorem dX1_splitNode_103 : decode cX1_splitNode 103 = .ok (.iastore, 1) := by decide +kernel
theorem dX1_splitNode_104 : decode cX1_splitNode 104 = .ok (.aload_n 0, 1) := by decide +kernel
theorem dX1_splitNode_105 : decode cX1_splitNode 105 = .ok (.getfield 19, 3) := by decide +kernel
theorem dX1_splitNode_108 : decode cX1_splitNode 108 = .ok (.iload_n 3, 1) := by decide +kernel
theorem dX1_splitNode_109 : decode cX1_splitNode 109 = .ok (.aload_n 0, 1) := by decide +kernel
theorem dX1_splitNode_110 : decode cX1_splitNode 110 = .ok (.getfield 79, 3) := by decide +kernel
theorem dX1_splitNode_113 : decode cX1_splitNode 113 = .ok (.iastore, 1) := by decide +kernel
theorem dX1_splitNode_114 : decode cX1_splitNode 114 = .ok (.aload_n 0, 1) := by decide +kernel
theorem dX1_splitNode_115 : decode cX1_splitNode 115 = .ok (.getfield 22, 3) := by decide +kernel
theorem dX1_splitNode_118 : decode cX1_splitNode 118 = .ok (.iload_n 3, 1) := by decide +kernel
theorem dX1_splitNode_119 : decode cX1_splitNode 119 = .ok (.iconst 0, 1) := by decide +kernel
theorem dX1_splitNode_120 : decode cX1_splitNode 120 = .ok (.iastore, 1) := by decide +kernel
theorem dX1_splitNode_121 : decode cX1_splitNode 121 = .ok (.iconst 1, 1) := by decide +kernel
theorem dX1_splitNode_122 : decode cX1_splitNode 122 = .ok (.ireturn, 1) := by decide +kernel
theorem dX1_rowsIn_0 : decode cX1_rowsIn 0 = .ok (.iconst 0, 1) := by decide +kernel
theorem dX1_rowsIn_1 : decode cX1_rowsIn 1 = .ok (.istore_n 2, 1) := by decide +kernel
theorem dX1_rowsIn_2 : decode cX1_rowsIn 2 = .ok (.iconst 0, 1) := by decide +kernel
theorem dX1_rowsIn_3 : decode cX1_rowsIn 3 = .ok (.istore_n 3, 1) := by decide +kernel
theorem dX1_rowsIn_4 : decode cX1_rowsIn 4 = .ok (.iload_n 3, 1) := by decide +kernel
theorem dX1_rowsIn_5 : decode cX1_rowsIn 5 = .ok (.bipush 8, 2) := by decide +kernel
theorem dX1_rowsIn_7 : decode cX1_rowsIn 7 = .ok (.if_icmp .ge 23, 3) := by decide +kernel
theorem dX1_rowsIn_10 : decode cX1_rowsIn 10 = .ok (.iload_n 2, 1) := by decide +kernel
theorem dX1_rowsIn_11 : decode cX1_rowsIn 11 = .ok (.aload_n 0, 1) := by decide +kernel
theorem dX1_rowsIn_12 : decode cX1_rowsIn 12 = .ok (.getfield 34, 3) := by decide +kernel
theorem dX1_rowsIn_15 : decode cX1_rowsIn 15 = .ok (.iload_n 1, 1) := by decide +kernel
theorem dX1_rowsIn_16 : decode cX1_rowsIn 16 = .ok (.bipush 24, 2) := by decide +kernel
theorem dX1_rowsIn_18 : decode cX1_rowsIn 18 = .ok (.imul, 1) := by decide +kernel
theorem dX1_rowsIn_19 : decode cX1_rowsIn 19 = .ok (.iload_n 3, 1) := by decide +kernel
theorem dX1_rowsIn_20 : decode cX1_rowsIn 20 = .ok (.iadd, 1) := by decide +kernel
theorem dX1_rowsIn_21 : decode cX1_rowsIn 21 = .ok (.iaload, 1) := by decide +kernel
theorem dX1_rowsIn_22 : decode cX1_rowsIn 22 = .ok (.iadd, 1) := by decide +kernel
theorem dX1_rowsIn_23 : decode cX1_rowsIn 23 = .ok (.istore_n 2, 1) := by decide +kernel
theorem dX1_rowsIn_24 : decode cX1_rowsIn 24 = .ok (.iinc 3 1, 3) := by decide +kernel
theorem dX1_rowsIn_27 : decode cX1_rowsIn 27 = .ok (.goto (-23), 3) := by decide +kernel
theorem dX1_rowsIn_30 : decode cX1_rowsIn 30 = .ok (.iload_n 2, 1) := by decide +kernel
theorem dX1_rowsIn_31 : decode cX1_rowsIn 31 = .ok (.ireturn, 1) := by decide +kernel
theorem dX1_sumIn_0 : decode cX1_sumIn 0 = .ok (.iconst 0, 1) := by decide +kernel
theorem dX1_sumIn_1 : decode cX1_sumIn 1 = .ok (.istore_n 2, 1) := by decide +kernel
theorem dX1_sumIn_2 : decode cX1_sumIn 2 = .ok (.iconst 0, 1) := by decide +kernel
theorem dX1_sumIn_3 : decode cX1_sumIn 3 = .ok (.istore_n 3, 1) := by decide +kernel
theorem dX1_sumIn_4 : decode cX1_sumIn 4 = .ok (.iload_n 3, 1) := by decide +kernel
theorem dX1_sumIn_5 : decode cX1_sumIn 5 = .ok (.bipush 8, 2) := by decide +kernel
theorem dX1_sumIn_7 : decode cX1_sumIn 7 = .ok (.if_icmp .ge 23, 3) := by decide +kernel
theorem dX1_sumIn_10 : decode cX1_sumIn 10 = .ok (.iload_n 2, 1) := by decide +kernel
theorem dX1_sumIn_11 : decode cX1_sumIn 11 = .ok (.aload_n 0, 1) := by decide +kernel
theorem dX1_sumIn_12 : decode cX1_sumIn 12 = .ok (.getfield 37, 3) := by decide +kernel
theorem dX1_sumIn_15 : decode cX1_sumIn 15 = .ok (.iload_n 1, 1) := by decide +kernel
theorem dX1_sumIn_16 : decode cX1_sumIn 16 = .ok (.bipush 24, 2) := by decide +kernel
theorem dX1_sumIn_18 : decode cX1_sumIn 18 = .ok (.imul, 1) := by decide +kernel
theorem dX1_sumIn_19 : decode cX1_sumIn 19 = .ok (.iload_n 3, 1) := by decide +kernel
theorem dX1_sumIn_20 : decode cX1_sumIn 20 = .ok (.iadd, 1) := by decide +kernel
theorem dX1_sumIn_21 : decode cX1_sumIn 21 = .ok (.iaload, 1) := by decide +kernel
theorem dX1_sumIn_22 : decode cX1_sumIn 22 = .ok (.iadd, 1) := by decide +kernel
theorem dX1_sumIn_23 : decode cX1_sumIn 23 = .ok (.istore_n 2, 1) := by decide +kernel
theorem dX1_sumIn_24 : decode cX1_sumIn 24 = .ok (.iinc 3 1, 3) := by decide +kernel
theorem dX1_sumIn_27 : decode cX1_sumIn 27 = .ok (.goto (-23), 3) := by decide +kernel
theorem dX1_sumIn_30 : decode cX1_sumIn 30 = .ok (.iload_n 2, 1) := by decide +kernel
theorem dX1_sumIn_31 : decode cX1_sumIn 31 = .ok (.ireturn, 1) := by decide +kernel
theorem dX1_findSplit_0 : decode cX1_findSplit 0 = .ok (.aload_n 0, 1) := by decide +kernel
theorem dX1_findSplit_1 : decode cX1_findSplit 1 = .ok (.iconst (-1), 1) := by decide +kernel
theorem dX1_findSplit_2 : decode cX1_findSplit 2 = .ok (.putfield 69, 3) := by decide +kernel
theorem dX1_findSplit_5 : decode cX1_findSplit 5 = .ok (.iconst 0, 1) := by decide +kernel
theorem dX1_findSplit_6 : decode cX1_findSplit 6 = .ok (.istore 4, 2) := by decide +kernel
theorem dX1_findSplit_8 : decode cX1_findSplit 8 = .ok (.iload 4, 2) := by decide +kernel
theorem dX1_findSplit_10 : decode cX1_findSplit 10 = .ok (.iconst 3, 1) := by decide +kernel
theorem dX1_findSplit_11 : decode cX1_findSplit 11 = .ok (.if_icmp .ge 95, 3) := by decide +kernel
theorem dX1_findSplit_14 : decode cX1_findSplit 14 = .ok (.iconst 0, 1) := by decide +kernel
theorem dX1_findSplit_15 : decode cX1_findSplit 15 = .ok (.istore 5, 2) := by decide +kernel
theorem dX1_findSplit_17 : decode cX1_findSplit 17 = .ok (.iconst 0, 1) := by decide +kernel
theorem dX1_findSplit_18 : decode cX1_findSplit 18 = .ok (.istore 6, 2) := by decide +kernel
theorem dX1_findSplit_20 : decode cX1_findSplit 20 = .ok (.iconst 0, 1) := by decide +kernel
theorem dX1_findSplit_21 : decode cX1_findSplit 21 = .ok (.istore 7, 2) := by decide +kernel
theorem dX1_findSplit_23 : decode cX1_findSplit 23 = .ok (.iload 7, 2) := by decide +kernel
theorem dX1_findSplit_25 : decode cX1_findSplit 25 = .ok (.bipush 7, 2) := by decide +kernel
theorem dX1_findSplit_27 : decode cX1_findSplit 27 = .ok (.if_icmp .ge 73, 3) := by decide +kernel
theorem dX1_findSplit_30 : decode cX1_findSplit 30 = .ok (.iload 5, 2) := by decide +kernel
theorem dX1_findSplit_32 : decode cX1_findSplit 32 = .ok (.aload_n 0, 1) := by decide +kernel
theorem dX1_findSplit_33 : decode cX1_findSplit 33 = .ok (.getfield 34, 3) := by decide +kernel
theorem dX1_findSplit_36 : decode cX1_findSplit 36 = .ok (.iload_n 1, 1) := by decide +kernel
theorem dX1_findSplit_37 : decode cX1_findSplit 37 = .ok (.bipush 24, 2) := by decide +kernel
theorem dX1_findSplit_39 : decode cX1_findSplit 39 = .ok (.imul, 1) := by decide +kernel
theorem dX1_findSplit_40 : decode cX1_findSplit 40 = .ok (.iload 4, 2) := by decide +kernel
theorem dX1_findSplit_42 : decode cX1_findSplit 42 = .ok (.bipush 8, 2) := by decide +kernel
theorem dX1_findSplit_44 : decode cX1_findSplit 44 = .ok (.imul, 1) := by decide +kernel
theorem dX1_findSplit_45 : decode cX1_findSplit 45 = .ok (.iadd, 1) := by decide +kernel
theorem dX1_findSplit_46 : decode cX1_findSplit 46 = .ok (.iload 7, 2) := by decide +kernel
theorem dX1_findSplit_48 : decode cX1_findSplit 48 = .ok (.iadd, 1) := by decide +kernel
theorem dX1_findSplit_49 : decode cX1_findSplit 49 = .ok (.iaload, 1) := by decide +kernel
theorem dX1_findSplit_50 : decode cX1_findSplit 50 = .ok (.iadd, 1) := by decide +kernel
theorem dX1_findSplit_51 : decode cX1_findSplit 51 = .ok (.istore 5, 2) := by decide +kernel
theorem dX1_findSplit_53 : decode cX1_findSplit 53 = .ok (.iload 6, 2) := by decide +kernel
theorem dX1_findSplit_55 : decode cX1_findSplit 55 = .ok (.aload_n 0, 1) := by decide +kernel
theorem dX1_findSplit_56 : decode cX1_findSplit 56 = .ok (.getfield 37, 3) := by decide +kernel
theorem dX1_findSplit_59 : decode cX1_findSplit 59 = .ok (.iload_n 1, 1) := by decide +kernel
theorem dX1_findSplit_60 : decode cX1_findSplit 60 = .ok (.bipush 24, 2) := by decide +kernel
theorem dX1_findSplit_62 : decode cX1_findSplit 62 = .ok (.imul, 1) := by decide +kernel
theorem dX1_findSplit_63 : decode cX1_findSplit 63 = .ok (.iload 4, 2) := by decide +kernel
theorem dX1_findSplit_65 : decode cX1_findSplit 65 = .ok (.bipush 8, 2) := by decide +kernel
theorem dX1_findSplit_67 : decode cX1_findSplit 67 = .ok (.imul, 1) := by decide +kernel
theorem dX1_findSplit_68 : decode cX1_findSplit 68 = .ok (.iadd, 1) := by decide +kernel
theorem dX1_findSplit_69 : decode cX1_findSplit 69 = .ok (.iload 7, 2) := by decide +kernel
theorem dX1_findSplit_71 : decode cX1_findSplit 71 = .ok (.iadd, 1) := by decide +kernel
theorem dX1_findSplit_72 : decode cX1_findSplit 72 = .ok (.iaload, 1) := by decide +kernel
theorem dX1_findSplit_73 : decode cX1_findSplit 73 = .ok (.iadd, 1) := by decide +kernel
theorem dX1_findSplit_74 : decode cX1_findSplit 74 = .ok (.istore 6, 2) := by decide +kernel
theorem dX1_findSplit_76 : decode cX1_findSplit 76 = .ok (.aload_n 0, 1) := by decide +kernel
theorem dX1_findSplit_77 : decode cX1_findSplit 77 = .ok (.iload 4, 2) := by decide +kernel
theorem dX1_findSplit_79 : decode cX1_findSplit 79 = .ok (.iload 7, 2) := by decide +kernel
theorem dX1_findSplit_81 : decode cX1_findSplit 81 = .ok (.iload 5, 2) := by decide +kernel
theorem dX1_findSplit_83 : decode cX1_findSplit 83 = .ok (.i2l, 1) := by decide +kernel
theorem dX1_findSplit_84 : decode cX1_findSplit 84 = .ok (.iload 6, 2) := by decide +kernel
theorem dX1_findSplit_86 : decode cX1_findSplit 86 = .ok (.i2l, 1) := by decide +kernel
theorem dX1_findSplit_87 : decode cX1_findSplit 87 = .ok (.iload_n 2, 1) := by decide +kernel
theorem dX1_findSplit_88 : decode cX1_findSplit 88 = .ok (.i2l, 1) := by decide +kernel
theorem dX1_findSplit_89 : decode cX1_findSplit 89 = .ok (.iload_n 3, 1) := by decide +kernel
theorem dX1_findSplit_90 : decode cX1_findSplit 90 = .ok (.i2l, 1) := by decide +kernel
theorem dX1_findSplit_91 : decode cX1_findSplit 91 = .ok (.invokevirtual 82, 3) := by decide +kernel
theorem dX1_findSplit_94 : decode cX1_findSplit 94 = .ok (.iinc 7 1, 3) := by decide +kernel
theorem dX1_findSplit_97 : decode cX1_findSplit 97 = .ok (.goto (-74), 3) := by decide +kernel
theorem dX1_findSplit_100 : decode cX1_findSplit 100 = .ok (.iinc 4 1, 3) := by decide +kernel
theorem dX1_findSplit_103 : decode cX1_findSplit 103 = .ok (.goto (-95), 3) := by decide +kernel
theorem dX1_findSplit_106 : decode cX1_findSplit 106 = .ok (.return_, 1) := by decide +kernel
theorem dX1_tryLeft_0 : decode cX1_tryLeft 0 = .ok (.lload 7, 2) := by decide +kernel
theorem dX1_tryLeft_2 : decode cX1_tryLeft 2 = .ok (.lload_n 3, 1) := by decide +kernel
theorem dX1_tryLeft_3 : decode cX1_tryLeft 3 = .ok (.lsub, 1) := by decide +kernel
theorem dX1_tryLeft_4 : decode cX1_tryLeft 4 = .ok (.lstore 11, 2) := by decide +kernel
theorem dX1_tryLeft_6 : decode cX1_tryLeft 6 = .ok (.lload 9, 2) := by decide +kernel
theorem dX1_tryLeft_8 : decode cX1_tryLeft 8 = .ok (.lload 5, 2) := by decide +kernel
theorem dX1_tryLeft_10 : decode cX1_tryLeft 10 = .ok (.lsub, 1) := by decide +kernel
theorem dX1_tryLeft_11 : decode cX1_tryLeft 11 = .ok (.lstore 13, 2) := by decide +kernel
theorem dX1_tryLeft_13 : decode cX1_tryLeft 13 = .ok (.lload_n 3, 1) := by decide +kernel
theorem dX1_tryLeft_14 : decode cX1_tryLeft 14 = .ok (.aload_n 0, 1) := by decide +kernel
theorem dX1_tryLeft_15 : decode cX1_tryLeft 15 = .ok (.getfield 40, 3) := by decide +kernel
theorem dX1_tryLeft_18 : decode cX1_tryLeft 18 = .ok (.i2l, 1) := by decide +kernel
theorem dX1_tryLeft_19 : decode cX1_tryLeft 19 = .ok (.lcmp, 1) := by decide +kernel
theorem dX1_tryLeft_20 : decode cX1_tryLeft 20 = .ok (.ifCond .lt 14, 3) := by decide +kernel
theorem dX1_tryLeft_23 : decode cX1_tryLeft 23 = .ok (.lload 11, 2) := by decide +kernel
theorem dX1_tryLeft_25 : decode cX1_tryLeft 25 = .ok (.aload_n 0, 1) := by decide +kernel
theorem dX1_tryLeft_26 : decode cX1_tryLeft 26 = .ok (.getfield 40, 3) := by decide +kernel
theorem dX1_tryLeft_29 : decode cX1_tryLeft 29 = .ok (.i2l, 1) := by decide +kernel
theorem dX1_tryLeft_30 : decode cX1_tryLeft 30 = .ok (.lcmp, 1) := by decide +kernel
theorem dX1_tryLeft_31 : decode cX1_tryLeft 31 = .ok (.ifCond .ge 4, 3) := by decide +kernel
theorem dX1_tryLeft_34 : decode cX1_tryLeft 34 = .ok (.return_, 1) := by decide +kernel
theorem dX1_tryLeft_35 : decode cX1_tryLeft 35 = .ok (.lload 5, 2) := by decide +kernel
theorem dX1_tryLeft_37 : decode cX1_tryLeft 37 = .ok (.lload 5, 2) := by decide +kernel
theorem dX1_tryLeft_39 : decode cX1_tryLeft 39 = .ok (.lmul, 1) := by decide +kernel
theorem dX1_tryLeft_40 : decode cX1_tryLeft 40 = .ok (.lload 11, 2) := by decide +kernel
theorem dX1_tryLeft_42 : decode cX1_tryLeft 42 = .ok (.lmul, 1) := by decide +kernel
theorem dX1_tryLeft_43 : decode cX1_tryLeft 43 = .ok (.lload 13, 2) := by decide +kernel
theorem dX1_tryLeft_45 : decode cX1_tryLeft 45 = .ok (.lload 13, 2) := by decide +kernel
theorem dX1_tryLeft_47 : decode cX1_tryLeft 47 = .ok (.lmul, 1) := by decide +kernel
theorem dX1_tryLeft_48 : decode cX1_tryLeft 48 = .ok (.lload_n 3, 1) := by decide +kernel
theorem dX1_tryLeft_49 : decode cX1_tryLeft 49 = .ok (.lmul, 1) := by decide +kernel
theorem dX1_tryLeft_50 : decode cX1_tryLeft 50 = .ok (.ladd, 1) := by decide +kernel
theorem dX1_tryLeft_51 : decode cX1_tryLeft 51 = .ok (.lstore 15, 2) := by decide +kernel
theorem dX1_tryLeft_53 : decode cX1_tryLeft 53 = .ok (.lload_n 3, 1) := by decide +kernel
theorem dX1_tryLeft_54 : decode cX1_tryLeft 54 = .ok (.lload 11, 2) := by decide +kernel
theorem dX1_tryLeft_56 : decode cX1_tryLeft 56 = .ok (.lmul, 1) := by decide +kernel
theorem dX1_tryLeft_57 : decode cX1_tryLeft 57 = .ok (.lstore 17, 2) := by decide +kernel
theorem dX1_tryLeft_59 : decode cX1_tryLeft 59 = .ok (.aload_n 0, 1) := by decide +kernel
theorem dX1_tryLeft_60 : decode cX1_tryLeft 60 = .ok (.getfield 69, 3) := by decide +kernel
theorem dX1_tryLeft_63 : decode cX1_tryLeft 63 = .ok (.ifCond .lt 22, 3) := by decide +kernel
theorem dX1_tryLeft_66 : decode cX1_tryLeft 66 = .ok (.lload 15, 2) := by decide +kernel
theorem dX1_tryLeft_68 : decode cX1_tryLeft 68 = .ok (.aload_n 0, 1) := by decide +kernel
theorem dX1_tryLeft_69 : decode cX1_tryLeft 69 = .ok (.getfield 72, 3) := by decide +kernel
theorem dX1_tryLeft_72 : decode cX1_tryLeft 72 = .ok (.lmul, 1) := by decide +kernel
theorem dX1_tryLeft_73 : decode cX1_tryLeft 73 = .ok (.aload_n 0, 1) := by decide +kernel
theorem dX1_tryLeft_74 : decode cX1_tryLeft 74 = .ok (.getfield 76, 3) := by decide +kernel
theorem dX1_tryLeft_77 : decode cX1_tryLeft 77 = .ok (.lload 17, 2) := by decide +kernel
theorem dX1_tryLeft_79 : decode cX1_tryLeft 79 = .ok (.lmul, 1) := by decide +kernel
theorem dX1_tryLeft_80 : decode cX1_tryLeft 80 = .ok (.lcmp, 1) := by decide +kernel
theorem dX1_tryLeft_81 : decode cX1_tryLeft 81 = .ok (.ifCond .gt 4, 3) := by decide +kernel
theorem dX1_tryLeft_84 : decode cX1_tryLeft 84 = .ok (.return_, 1) := by decide +kernel
theorem dX1_tryLeft_85 : decode cX1_tryLeft 85 = .ok (.aload_n 0, 1) := by decide +kernel
theorem dX1_tryLeft_86 : decode cX1_tryLeft 86 = .ok (.iload_n 1, 1) := by decide +kernel
theorem dX1_tryLeft_87 : decode cX1_tryLeft 87 = .ok (.putfield 69, 3) := by decide +kernel
theorem dX1_tryLeft_90 : decode cX1_tryLeft 90 = .ok (.aload_n 0, 1) := by decide +kernel
theorem dX1_tryLeft_91 : decode cX1_tryLeft 91 = .ok (.iload_n 2, 1) := by decide +kernel
end
section
set_option maxRecDepth 100000
theorem dX1_tryLeft_92 : decode cX1_tryLeft 92 = .ok (.putfield 79, 3) := by decide +kernel
theorem dX1_tryLeft_95 : decode cX1_tryLeft 95 = .ok (.aload_n 0, 1) := by decide +kernel
theorem dX1_tryLeft_96 : decode cX1_tryLeft 96 = .ok (.lload 15, 2) := by decide +kernel
theorem dX1_tryLeft_98 : decode cX1_tryLeft 98 = .ok (.putfield 76, 3) := by decide +kernel
theorem dX1_tryLeft_101 : decode cX1_tryLeft 101 = .ok (.aload_n 0, 1) := by decide +kernel
theorem dX1_tryLeft_102 : decode cX1_tryLeft 102 = .ok (.lload 17, 2) := by decide +kernel
theorem dX1_tryLeft_104 : decode cX1_tryLeft 104 = .ok (.putfield 72, 3) := by decide +kernel
theorem dX1_tryLeft_107 : decode cX1_tryLeft 107 = .ok (.return_, 1) := by decide +kernel
theorem dX1_makeLeaf_0 : decode cX1_makeLeaf 0 = .ok (.aload_n 0, 1) := by decide +kernel
theorem dX1_makeLeaf_1 : decode cX1_makeLeaf 1 = .ok (.getfield 16, 3) := by decide +kernel
theorem dX1_makeLeaf_4 : decode cX1_makeLeaf 4 = .ok (.iload_n 1, 1) := by decide +kernel
theorem dX1_makeLeaf_5 : decode cX1_makeLeaf 5 = .ok (.bipush (-6), 2) := by decide +kernel
theorem dX1_makeLeaf_7 : decode cX1_makeLeaf 7 = .ok (.iastore, 1) := by decide +kernel
theorem dX1_makeLeaf_8 : decode cX1_makeLeaf 8 = .ok (.aload_n 0, 1) := by decide +kernel
theorem dX1_makeLeaf_9 : decode cX1_makeLeaf 9 = .ok (.getfield 22, 3) := by decide +kernel
theorem dX1_makeLeaf_12 : decode cX1_makeLeaf 12 = .ok (.iload_n 1, 1) := by decide +kernel
theorem dX1_makeLeaf_13 : decode cX1_makeLeaf 13 = .ok (.iload_n 2, 1) := by decide +kernel
theorem dX1_makeLeaf_14 : decode cX1_makeLeaf 14 = .ok (.ifCond .le 9, 3) := by decide +kernel
theorem dX1_makeLeaf_17 : decode cX1_makeLeaf 17 = .ok (.iload_n 3, 1) := by decide +kernel
theorem dX1_makeLeaf_18 : decode cX1_makeLeaf 18 = .ok (.iload_n 2, 1) := by decide +kernel
theorem dX1_makeLeaf_19 : decode cX1_makeLeaf 19 = .ok (.idiv, 1) := by decide +kernel
theorem dX1_makeLeaf_20 : decode cX1_makeLeaf 20 = .ok (.goto 4, 3) := by decide +kernel
theorem dX1_makeLeaf_23 : decode cX1_makeLeaf 23 = .ok (.iconst 0, 1) := by decide +kernel
theorem dX1_makeLeaf_24 : decode cX1_makeLeaf 24 = .ok (.iastore, 1) := by decide +kernel
theorem dX1_makeLeaf_25 : decode cX1_makeLeaf 25 = .ok (.return_, 1) := by decide +kernel
theorem dX1_part_0 : decode cX1_part 0 = .ok (.iload_n 1, 1) := by decide +kernel
theorem dX1_part_1 : decode cX1_part 1 = .ok (.bipush 7, 2) := by decide +kernel
theorem dX1_part_3 : decode cX1_part 3 = .ok (.imul, 1) := by decide +kernel
theorem dX1_part_4 : decode cX1_part 4 = .ok (.iload_n 2, 1) := by decide +kernel
theorem dX1_part_5 : decode cX1_part 5 = .ok (.iadd, 1) := by decide +kernel
theorem dX1_part_6 : decode cX1_part 6 = .ok (.istore_n 3, 1) := by decide +kernel
theorem dX1_part_7 : decode cX1_part 7 = .ok (.iconst 2, 1) := by decide +kernel
theorem dX1_part_8 : decode cX1_part 8 = .ok (.iload_n 2, 1) := by decide +kernel
theorem dX1_part_9 : decode cX1_part 9 = .ok (.imul, 1) := by decide +kernel
theorem dX1_part_10 : decode cX1_part 10 = .ok (.iconst 1, 1) := by decide +kernel
theorem dX1_part_11 : decode cX1_part 11 = .ok (.iadd, 1) := by decide +kernel
theorem dX1_part_12 : decode cX1_part 12 = .ok (.istore 4, 2) := by decide +kernel
theorem dX1_part_14 : decode cX1_part 14 = .ok (.iconst 0, 1) := by decide +kernel
theorem dX1_part_15 : decode cX1_part 15 = .ok (.istore 5, 2) := by decide +kernel
theorem dX1_part_17 : decode cX1_part 17 = .ok (.iconst 0, 1) := by decide +kernel
theorem dX1_part_18 : decode cX1_part 18 = .ok (.istore 6, 2) := by decide +kernel
theorem dX1_part_20 : decode cX1_part 20 = .ok (.iload 6, 2) := by decide +kernel
theorem dX1_part_22 : decode cX1_part 22 = .ok (.aload_n 0, 1) := by decide +kernel
theorem dX1_part_23 : decode cX1_part 23 = .ok (.getfield 44, 3) := by decide +kernel
theorem dX1_part_26 : decode cX1_part 26 = .ok (.if_icmp .ge 80, 3) := by decide +kernel
theorem dX1_part_29 : decode cX1_part 29 = .ok (.aload_n 0, 1) := by decide +kernel
theorem dX1_part_30 : decode cX1_part 30 = .ok (.getfield 31, 3) := by decide +kernel
theorem dX1_part_33 : decode cX1_part 33 = .ok (.iload 6, 2) := by decide +kernel
theorem dX1_part_35 : decode cX1_part 35 = .ok (.iaload, 1) := by decide +kernel
theorem dX1_part_36 : decode cX1_part 36 = .ok (.iload_n 2, 1) := by decide +kernel
theorem dX1_part_37 : decode cX1_part 37 = .ok (.if_icmp .ne 63, 3) := by decide +kernel
theorem dX1_part_40 : decode cX1_part 40 = .ok (.aload_n 0, 1) := by decide +kernel
theorem dX1_part_41 : decode cX1_part 41 = .ok (.getfield 7, 3) := by decide +kernel
theorem dX1_part_44 : decode cX1_part 44 = .ok (.iload 6, 2) := by decide +kernel
theorem dX1_part_46 : decode cX1_part 46 = .ok (.iaload, 1) := by decide +kernel
theorem dX1_part_47 : decode cX1_part 47 = .ok (.aload_n 0, 1) := by decide +kernel
theorem dX1_part_48 : decode cX1_part 48 = .ok (.getfield 16, 3) := by decide +kernel
theorem dX1_part_51 : decode cX1_part 51 = .ok (.iload_n 3, 1) := by decide +kernel
theorem dX1_part_52 : decode cX1_part 52 = .ok (.iaload, 1) := by decide +kernel
theorem dX1_part_53 : decode cX1_part 53 = .ok (.invokestatic 47, 3) := by decide +kernel
theorem dX1_part_56 : decode cX1_part 56 = .ok (.istore 7, 2) := by decide +kernel
theorem dX1_part_58 : decode cX1_part 58 = .ok (.aload_n 0, 1) := by decide +kernel
theorem dX1_part_59 : decode cX1_part 59 = .ok (.getfield 31, 3) := by decide +kernel
theorem dX1_part_62 : decode cX1_part 62 = .ok (.iload 6, 2) := by decide +kernel
theorem dX1_part_64 : decode cX1_part 64 = .ok (.iload 7, 2) := by decide +kernel
theorem dX1_part_66 : decode cX1_part 66 = .ok (.aload_n 0, 1) := by decide +kernel
theorem dX1_part_67 : decode cX1_part 67 = .ok (.getfield 19, 3) := by decide +kernel
theorem dX1_part_70 : decode cX1_part 70 = .ok (.iload_n 3, 1) := by decide +kernel
theorem dX1_part_71 : decode cX1_part 71 = .ok (.iaload, 1) := by decide +kernel
theorem dX1_part_72 : decode cX1_part 72 = .ok (.if_icmp .gt 8, 3) := by decide +kernel
theorem dX1_part_75 : decode cX1_part 75 = .ok (.iload 4, 2) := by decide +kernel
theorem dX1_part_77 : decode cX1_part 77 = .ok (.goto 7, 3) := by decide +kernel
theorem dX1_part_80 : decode cX1_part 80 = .ok (.iload 4, 2) := by decide +kernel
theorem dX1_part_82 : decode cX1_part 82 = .ok (.iconst 1, 1) := by decide +kernel
theorem dX1_part_83 : decode cX1_part 83 = .ok (.iadd, 1) := by decide +kernel
theorem dX1_part_84 : decode cX1_part 84 = .ok (.iastore, 1) := by decide +kernel
theorem dX1_part_85 : decode cX1_part 85 = .ok (.aload_n 0, 1) := by decide +kernel
theorem dX1_part_86 : decode cX1_part 86 = .ok (.getfield 31, 3) := by decide +kernel
theorem dX1_part_89 : decode cX1_part 89 = .ok (.iload 6, 2) := by decide +kernel
theorem dX1_part_91 : decode cX1_part 91 = .ok (.iaload, 1) := by decide +kernel
theorem dX1_part_92 : decode cX1_part 92 = .ok (.iload 4, 2) := by decide +kernel
theorem dX1_part_94 : decode cX1_part 94 = .ok (.if_icmp .ne 6, 3) := by decide +kernel
theorem dX1_part_97 : decode cX1_part 97 = .ok (.iinc 5 1, 3) := by decide +kernel
theorem dX1_part_100 : decode cX1_part 100 = .ok (.iinc 6 1, 3) := by decide +kernel
theorem dX1_part_103 : decode cX1_part 103 = .ok (.goto (-83), 3) := by decide +kernel
theorem dX1_part_106 : decode cX1_part 106 = .ok (.iconst 2, 1) := by decide +kernel
theorem dX1_part_107 : decode cX1_part 107 = .ok (.iload 5, 2) := by decide +kernel
theorem dX1_part_109 : decode cX1_part 109 = .ok (.imul, 1) := by decide +kernel
theorem dX1_part_110 : decode cX1_part 110 = .ok (.aload_n 0, 1) := by decide +kernel
theorem dX1_part_111 : decode cX1_part 111 = .ok (.getfield 25, 3) := by decide +kernel
theorem dX1_part_114 : decode cX1_part 114 = .ok (.iload_n 3, 1) := by decide +kernel
theorem dX1_part_115 : decode cX1_part 115 = .ok (.iaload, 1) := by decide +kernel
theorem dX1_part_116 : decode cX1_part 116 = .ok (.if_icmp .gt 8, 3) := by decide +kernel
theorem dX1_part_119 : decode cX1_part 119 = .ok (.iload 4, 2) := by decide +kernel
theorem dX1_part_121 : decode cX1_part 121 = .ok (.goto 7, 3) := by decide +kernel
theorem dX1_part_124 : decode cX1_part 124 = .ok (.iload 4, 2) := by decide +kernel
theorem dX1_part_126 : decode cX1_part 126 = .ok (.iconst 1, 1) := by decide +kernel
theorem dX1_part_127 : decode cX1_part 127 = .ok (.iadd, 1) := by decide +kernel
theorem dX1_part_128 : decode cX1_part 128 = .ok (.istore 6, 2) := by decide +kernel
theorem dX1_part_130 : decode cX1_part 130 = .ok (.iload 6, 2) := by decide +kernel
theorem dX1_part_132 : decode cX1_part 132 = .ok (.iload 4, 2) := by decide +kernel
theorem dX1_part_134 : decode cX1_part 134 = .ok (.if_icmp .ne 10, 3) := by decide +kernel
theorem dX1_part_137 : decode cX1_part 137 = .ok (.iload 4, 2) := by decide +kernel
theorem dX1_part_139 : decode cX1_part 139 = .ok (.iconst 1, 1) := by decide +kernel
theorem dX1_part_140 : decode cX1_part 140 = .ok (.iadd, 1) := by decide +kernel
theorem dX1_part_141 : decode cX1_part 141 = .ok (.goto 5, 3) := by decide +kernel
theorem dX1_part_144 : decode cX1_part 144 = .ok (.iload 4, 2) := by decide +kernel
theorem dX1_part_146 : decode cX1_part 146 = .ok (.istore 7, 2) := by decide +kernel
theorem dX1_part_148 : decode cX1_part 148 = .ok (.aload_n 0, 1) := by decide +kernel
theorem dX1_part_149 : decode cX1_part 149 = .ok (.iload 6, 2) := by decide +kernel
theorem dX1_part_151 : decode cX1_part 151 = .ok (.invokevirtual 99, 3) := by decide +kernel
theorem dX1_part_154 : decode cX1_part 154 = .ok (.aload_n 0, 1) := by decide +kernel
theorem dX1_part_155 : decode cX1_part 155 = .ok (.iload 7, 2) := by decide +kernel
theorem dX1_part_157 : decode cX1_part 157 = .ok (.iload_n 2, 1) := by decide +kernel
theorem dX1_part_158 : decode cX1_part 158 = .ok (.iload 6, 2) := by decide +kernel
theorem dX1_part_160 : decode cX1_part 160 = .ok (.invokevirtual 102, 3) := by decide +kernel
theorem dX1_part_163 : decode cX1_part 163 = .ok (.return_, 1) := by decide +kernel
theorem dX1_fromParent_0 : decode cX1_fromParent 0 = .ok (.iconst 0, 1) := by decide +kernel
theorem dX1_fromParent_1 : decode cX1_fromParent 1 = .ok (.istore 4, 2) := by decide +kernel
theorem dX1_fromParent_3 : decode cX1_fromParent 3 = .ok (.iload 4, 2) := by decide +kernel
theorem dX1_fromParent_5 : decode cX1_fromParent 5 = .ok (.bipush 24, 2) := by decide +kernel
theorem dX1_fromParent_7 : decode cX1_fromParent 7 = .ok (.if_icmp .ge 83, 3) := by decide +kernel
theorem dX1_fromParent_10 : decode cX1_fromParent 10 = .ok (.aload_n 0, 1) := by decide +kernel
theorem dX1_fromParent_11 : decode cX1_fromParent 11 = .ok (.getfield 34, 3) := by decide +kernel
theorem dX1_fromParent_14 : decode cX1_fromParent 14 = .ok (.iload_n 1, 1) := by decide +kernel
theorem dX1_fromParent_15 : decode cX1_fromParent 15 = .ok (.bipush 24, 2) := by decide +kernel
theorem dX1_fromParent_17 : decode cX1_fromParent 17 = .ok (.imul, 1) := by decide +kernel
theorem dX1_fromParent_18 : decode cX1_fromParent 18 = .ok (.iload 4, 2) := by decide +kernel
theorem dX1_fromParent_20 : decode cX1_fromParent 20 = .ok (.iadd, 1) := by decide +kernel
theorem dX1_fromParent_21 : decode cX1_fromParent 21 = .ok (.aload_n 0, 1) := by decide +kernel
theorem dX1_fromParent_22 : decode cX1_fromParent 22 = .ok (.getfield 34, 3) := by decide +kernel
theorem dX1_fromParent_25 : decode cX1_fromParent 25 = .ok (.iload_n 2, 1) := by decide +kernel
theorem dX1_fromParent_26 : decode cX1_fromParent 26 = .ok (.bipush 24, 2) := by decide +kernel
theorem dX1_fromParent_28 : decode cX1_fromParent 28 = .ok (.imul, 1) := by decide +kernel
theorem dX1_fromParent_29 : decode cX1_fromParent 29 = .ok (.iload 4, 2) := by decide +kernel
theorem dX1_fromParent_31 : decode cX1_fromParent 31 = .ok (.iadd, 1) := by decide +kernel
theorem dX1_fromParent_32 : decode cX1_fromParent 32 = .ok (.iaload, 1) := by decide +kernel
theorem dX1_fromParent_33 : decode cX1_fromParent 33 = .ok (.aload_n 0, 1) := by decide +kernel
theorem dX1_fromParent_34 : decode cX1_fromParent 34 = .ok (.getfield 34, 3) := by decide +kernel
theorem dX1_fromParent_37 : decode cX1_fromParent 37 = .ok (.iload_n 3, 1) := by decide +kernel
theorem dX1_fromParent_38 : decode cX1_fromParent 38 = .ok (.bipush 24, 2) := by decide +kernel
theorem dX1_fromParent_40 : decode cX1_fromParent 40 = .ok (.imul, 1) := by decide +kernel
theorem dX1_fromParent_41 : decode cX1_fromParent 41 = .ok (.iload 4, 2) := by decide +kernel
theorem dX1_fromParent_43 : decode cX1_fromParent 43 = .ok (.iadd, 1) := by decide +kernel
theorem dX1_fromParent_44 : decode cX1_fromParent 44 = .ok (.iaload, 1) := by decide +kernel
theorem dX1_fromParent_45 : decode cX1_fromParent 45 = .ok (.isub, 1) := by decide +kernel
theorem dX1_fromParent_46 : decode cX1_fromParent 46 = .ok (.iastore, 1) := by decide +kernel
theorem dX1_fromParent_47 : decode cX1_fromParent 47 = .ok (.aload_n 0, 1) := by decide +kernel
theorem dX1_fromParent_48 : decode cX1_fromParent 48 = .ok (.getfield 37, 3) := by decide +kernel
theorem dX1_fromParent_51 : decode cX1_fromParent 51 = .ok (.iload_n 1, 1) := by decide +kernel
theorem dX1_fromParent_52 : decode cX1_fromParent 52 = .ok (.bipush 24, 2) := by decide +kernel
theorem dX1_fromParent_54 : decode cX1_fromParent 54 = .ok (.imul, 1) := by decide +kernel
theorem dX1_fromParent_55 : decode cX1_fromParent 55 = .ok (.iload 4, 2) := by decide +kernel
theorem dX1_fromParent_57 : decode cX1_fromParent 57 = .ok (.iadd, 1) := by decide +kernel
theorem dX1_fromParent_58 : decode cX1_fromParent 58 = .ok (.aload_n 0, 1) := by decide +kernel
theorem dX1_fromParent_59 : decode cX1_fromParent 59 = .ok (.getfield 37, 3) := by decide +kernel
theorem dX1_fromParent_62 : decode cX1_fromParent 62 = .ok (.iload_n 2, 1) := by decide +kernel
theorem dX1_fromParent_63 : decode cX1_fromParent 63 = .ok (.bipush 24, 2) := by decide +kernel
theorem dX1_fromParent_65 : decode cX1_fromParent 65 = .ok (.imul, 1) := by decide +kernel
theorem dX1_fromParent_66 : decode cX1_fromParent 66 = .ok (.iload 4, 2) := by decide +kernel
theorem dX1_fromParent_68 : decode cX1_fromParent 68 = .ok (.iadd, 1) := by decide +kernel
theorem dX1_fromParent_69 : decode cX1_fromParent 69 = .ok (.iaload, 1) := by decide +kernel
theorem dX1_fromParent_70 : decode cX1_fromParent 70 = .ok (.aload_n 0, 1) := by decide +kernel
theorem dX1_fromParent_71 : decode cX1_fromParent 71 = .ok (.getfield 37, 3) := by decide +kernel
theorem dX1_fromParent_74 : decode cX1_fromParent 74 = .ok (.iload_n 3, 1) := by decide +kernel
theorem dX1_fromParent_75 : decode cX1_fromParent 75 = .ok (.bipush 24, 2) := by decide +kernel
theorem dX1_fromParent_77 : decode cX1_fromParent 77 = .ok (.imul, 1) := by decide +kernel
theorem dX1_fromParent_78 : decode cX1_fromParent 78 = .ok (.iload 4, 2) := by decide +kernel
theorem dX1_fromParent_80 : decode cX1_fromParent 80 = .ok (.iadd, 1) := by decide +kernel
theorem dX1_fromParent_81 : decode cX1_fromParent 81 = .ok (.iaload, 1) := by decide +kernel
theorem dX1_fromParent_82 : decode cX1_fromParent 82 = .ok (.isub, 1) := by decide +kernel
theorem dX1_fromParent_83 : decode cX1_fromParent 83 = .ok (.iastore, 1) := by decide +kernel
theorem dX1_fromParent_84 : decode cX1_fromParent 84 = .ok (.iinc 4 1, 3) := by decide +kernel
theorem dX1_fromParent_87 : decode cX1_fromParent 87 = .ok (.goto (-84), 3) := by decide +kernel
theorem dX1_fromParent_90 : decode cX1_fromParent 90 = .ok (.return_, 1) := by decide +kernel
theorem dX1_dropTree_0 : decode cX1_dropTree 0 = .ok (.aload_n 0, 1) := by decide +kernel
theorem dX1_dropTree_1 : decode cX1_dropTree 1 = .ok (.getfield 51, 3) := by decide +kernel
theorem dX1_dropTree_4 : decode cX1_dropTree 4 = .ok (.ifCond .ne 6, 3) := by decide +kernel
theorem dX1_dropTree_7 : decode cX1_dropTree 7 = .ok (.bipush (-7), 2) := by decide +kernel
theorem dX1_dropTree_9 : decode cX1_dropTree 9 = .ok (.ireturn, 1) := by decide +kernel
theorem dX1_dropTree_10 : decode cX1_dropTree 10 = .ok (.aload_n 0, 1) := by decide +kernel
theorem dX1_dropTree_11 : decode cX1_dropTree 11 = .ok (.dup, 1) := by decide +kernel
theorem dX1_dropTree_12 : decode cX1_dropTree 12 = .ok (.getfield 51, 3) := by decide +kernel
theorem dX1_dropTree_15 : decode cX1_dropTree 15 = .ok (.iconst 1, 1) := by decide +kernel
theorem dX1_dropTree_16 : decode cX1_dropTree 16 = .ok (.isub, 1) := by decide +kernel
theorem dX1_dropTree_17 : decode cX1_dropTree 17 = .ok (.putfield 51, 3) := by decide +kernel
theorem dX1_dropTree_20 : decode cX1_dropTree 20 = .ok (.aload_n 0, 1) := by decide +kernel
theorem dX1_dropTree_21 : decode cX1_dropTree 21 = .ok (.getfield 51, 3) := by decide +kernel
theorem dX1_dropTree_24 : decode cX1_dropTree 24 = .ok (.ireturn, 1) := by decide +kernel
theorem dX1_clear_0 : decode cX1_clear 0 = .ok (.aload_n 0, 1) := by decide +kernel
theorem dX1_clear_1 : decode cX1_clear 1 = .ok (.iconst 0, 1) := by decide +kernel
theorem dX1_clear_2 : decode cX1_clear 2 = .ok (.putfield 44, 3) := by decide +kernel
theorem dX1_clear_5 : decode cX1_clear 5 = .ok (.aload_n 0, 1) := by decide +kernel
theorem dX1_clear_6 : decode cX1_clear 6 = .ok (.iconst 0, 1) := by decide +kernel
theorem dX1_clear_7 : decode cX1_clear 7 = .ok (.putfield 51, 3) := by decide +kernel
theorem dX1_clear_10 : decode cX1_clear 10 = .ok (.return_, 1) := by decide +kernel
theorem dX1_predict_0 : decode cX1_predict 0 = .ok (.aload_n 0, 1) := by decide +kernel
theorem dX1_predict_1 : decode cX1_predict 1 = .ok (.iload_n 1, 1) := by decide +kernel
theorem dX1_predict_2 : decode cX1_predict 2 = .ok (.sipush 511, 3) := by decide +kernel
theorem dX1_predict_5 : decode cX1_predict 5 = .ok (.iand, 1) := by decide +kernel
theorem dX1_predict_6 : decode cX1_predict 6 = .ok (.invokevirtual 57, 3) := by decide +kernel
theorem dX1_predict_9 : decode cX1_predict 9 = .ok (.ireturn, 1) := by decide +kernel
theorem dX1_rest_0 : decode cX1_rest 0 = .ok (.iload_n 1, 1) := by decide +kernel
theorem dX1_rest_1 : decode cX1_rest 1 = .ok (.ifCond .lt 11, 3) := by decide +kernel
theorem dX1_rest_4 : decode cX1_rest 4 = .ok (.iload_n 1, 1) := by decide +kernel
theorem dX1_rest_5 : decode cX1_rest 5 = .ok (.aload_n 0, 1) := by decide +kernel
theorem dX1_rest_6 : decode cX1_rest 6 = .ok (.getfield 44, 3) := by decide +kernel
theorem dX1_rest_9 : decode cX1_rest 9 = .ok (.if_icmp .lt 7, 3) := by decide +kernel
theorem dX1_rest_12 : decode cX1_rest 12 = .ok (.iconst 0, 1) := by decide +kernel
theorem dX1_rest_13 : decode cX1_rest 13 = .ok (.goto 8, 3) := by decide +kernel
theorem dX1_rest_16 : decode cX1_rest 16 = .ok (.aload_n 0, 1) := by decide +kernel
theorem dX1_rest_17 : decode cX1_rest 17 = .ok (.iload_n 1, 1) := by decide +kernel
theorem dX1_rest_18 : decode cX1_rest 18 = .ok (.invokevirtual 105, 3) := by decide +kernel
theorem dX1_rest_21 : decode cX1_rest 21 = .ok (.ireturn, 1) := by decide +kernel
theorem dX1_loss_0 : decode cX1_loss 0 = .ok (.iconst 0, 1) := by decide +kernel
theorem dX1_loss_1 : decode cX1_loss 1 = .ok (.istore_n 1, 1) := by decide +kernel
theorem dX1_loss_2 : decode cX1_loss 2 = .ok (.iconst 0, 1) := by decide +kernel
theorem dX1_loss_3 : decode cX1_loss 3 = .ok (.istore_n 2, 1) := by decide +kernel
theorem dX1_loss_4 : decode cX1_loss 4 = .ok (.iload_n 2, 1) := by decide +kernel
theorem dX1_loss_5 : decode cX1_loss 5 = .ok (.aload_n 0, 1) := by decide +kernel
theorem dX1_loss_6 : decode cX1_loss 6 = .ok (.getfield 44, 3) := by decide +kernel
theorem dX1_loss_9 : decode cX1_loss 9 = .ok (.if_icmp .ge 21, 3) := by decide +kernel
theorem dX1_loss_12 : decode cX1_loss 12 = .ok (.aload_n 0, 1) := by decide +kernel
theorem dX1_loss_13 : decode cX1_loss 13 = .ok (.iload_n 2, 1) := by decide +kernel
theorem dX1_loss_14 : decode cX1_loss 14 = .ok (.invokevirtual 105, 3) := by decide +kernel
theorem dX1_loss_17 : decode cX1_loss 17 = .ok (.istore_n 3, 1) := by decide +kernel
theorem dX1_loss_18 : decode cX1_loss 18 = .ok (.iload_n 1, 1) := by decide +kernel
theorem dX1_loss_19 : decode cX1_loss 19 = .ok (.iload_n 3, 1) := by decide +kernel
theorem dX1_loss_20 : decode cX1_loss 20 = .ok (.iload_n 3, 1) := by decide +kernel
theorem dX1_loss_21 : decode cX1_loss 21 = .ok (.imul, 1) := by decide +kernel
theorem dX1_loss_22 : decode cX1_loss 22 = .ok (.iadd, 1) := by decide +kernel
theorem dX1_loss_23 : decode cX1_loss 23 = .ok (.istore_n 1, 1) := by decide +kernel
theorem dX1_loss_24 : decode cX1_loss 24 = .ok (.iinc 2 1, 3) := by decide +kernel
theorem dX1_loss_27 : decode cX1_loss 27 = .ok (.goto (-23), 3) := by decide +kernel
theorem dX1_loss_30 : decode cX1_loss 30 = .ok (.iload_n 1, 1) := by decide +kernel
theorem dX1_loss_31 : decode cX1_loss 31 = .ok (.ireturn, 1) := by decide +kernel
theorem dX1_feature_0 : decode cX1_feature 0 = .ok (.aload_n 0, 1) := by decide +kernel
theorem dX1_feature_1 : decode cX1_feature 1 = .ok (.iload_n 1, 1) := by decide +kernel
theorem dX1_feature_2 : decode cX1_feature 2 = .ok (.iload_n 2, 1) := by decide +kernel
theorem dX1_feature_3 : decode cX1_feature 3 = .ok (.invokevirtual 118, 3) := by decide +kernel
theorem dX1_feature_6 : decode cX1_feature 6 = .ok (.ifCond .eq 8, 3) := by decide +kernel
theorem dX1_feature_9 : decode cX1_feature 9 = .ok (.bipush (-5), 2) := by decide +kernel
theorem dX1_feature_11 : decode cX1_feature 11 = .ok (.goto 14, 3) := by decide +kernel
theorem dX1_feature_14 : decode cX1_feature 14 = .ok (.aload_n 0, 1) := by decide +kernel
theorem dX1_feature_15 : decode cX1_feature 15 = .ok (.getfield 16, 3) := by decide +kernel
theorem dX1_feature_18 : decode cX1_feature 18 = .ok (.iload_n 1, 1) := by decide +kernel
theorem dX1_feature_19 : decode cX1_feature 19 = .ok (.bipush 7, 2) := by decide +kernel
theorem dX1_feature_21 : decode cX1_feature 21 = .ok (.imul, 1) := by decide +kernel
theorem dX1_feature_22 : decode cX1_feature 22 = .ok (.iload_n 2, 1) := by decide +kernel
theorem dX1_feature_23 : decode cX1_feature 23 = .ok (.iadd, 1) := by decide +kernel
theorem dX1_feature_24 : decode cX1_feature 24 = .ok (.iaload, 1) := by decide +kernel
theorem dX1_feature_25 : decode cX1_feature 25 = .ok (.ireturn, 1) := by decide +kernel
theorem dX1_noNode_0 : decode cX1_noNode 0 = .ok (.iload_n 1, 1) := by decide +kernel
theorem dX1_noNode_1 : decode cX1_noNode 1 = .ok (.ifCond .lt 21, 3) := by decide +kernel
theorem dX1_noNode_4 : decode cX1_noNode 4 = .ok (.iload_n 1, 1) := by decide +kernel
theorem dX1_noNode_5 : decode cX1_noNode 5 = .ok (.aload_n 0, 1) := by decide +kernel
theorem dX1_noNode_6 : decode cX1_noNode 6 = .ok (.getfield 51, 3) := by decide +kernel
theorem dX1_noNode_9 : decode cX1_noNode 9 = .ok (.if_icmp .ge 13, 3) := by decide +kernel
theorem dX1_noNode_12 : decode cX1_noNode 12 = .ok (.iload_n 2, 1) := by decide +kernel
theorem dX1_noNode_13 : decode cX1_noNode 13 = .ok (.ifCond .lt 9, 3) := by decide +kernel
theorem dX1_noNode_16 : decode cX1_noNode 16 = .ok (.iload_n 2, 1) := by decide +kernel
theorem dX1_noNode_17 : decode cX1_noNode 17 = .ok (.bipush 7, 2) := by decide +kernel
theorem dX1_noNode_19 : decode cX1_noNode 19 = .ok (.if_icmp .lt 7, 3) := by decide +kernel
theorem dX1_noNode_22 : decode cX1_noNode 22 = .ok (.iconst 1, 1) := by decide +kernel
theorem dX1_noNode_23 : decode cX1_noNode 23 = .ok (.goto 4, 3) := by decide +kernel
theorem dX1_noNode_26 : decode cX1_noNode 26 = .ok (.iconst 0, 1) := by decide +kernel
theorem dX1_noNode_27 : decode cX1_noNode 27 = .ok (.ireturn, 1) := by decide +kernel
theorem dX1_bound_0 : decode cX1_bound 0 = .ok (.aload_n 0, 1) := by decide +kernel
theorem dX1_bound_1 : decode cX1_bound 1 = .ok (.iload_n 1, 1) := by decide +kernel
theorem dX1_bound_2 : decode cX1_bound 2 = .ok (.iload_n 2, 1) := by decide +kernel
theorem dX1_bound_3 : decode cX1_bound 3 = .ok (.invokevirtual 118, 3) := by decide +kernel
theorem dX1_bound_6 : decode cX1_bound 6 = .ok (.ifCond .eq 6, 3) := by decide +kernel
theorem dX1_bound_9 : decode cX1_bound 9 = .ok (.bipush (-5), 2) := by decide +kernel
theorem dX1_bound_11 : decode cX1_bound 11 = .ok (.ireturn, 1) := by decide +kernel
theorem dX1_bound_12 : decode cX1_bound 12 = .ok (.aload_n 0, 1) := by decide +kernel
theorem dX1_bound_13 : decode cX1_bound 13 = .ok (.getfield 16, 3) := by decide +kernel
theorem dX1_bound_16 : decode cX1_bound 16 = .ok (.iload_n 1, 1) := by decide +kernel
theorem dX1_bound_17 : decode cX1_bound 17 = .ok (.bipush 7, 2) := by decide +kernel
theorem dX1_bound_19 : decode cX1_bound 19 = .ok (.imul, 1) := by decide +kernel
theorem dX1_bound_20 : decode cX1_bound 20 = .ok (.iload_n 2, 1) := by decide +kernel
theorem dX1_bound_21 : decode cX1_bound 21 = .ok (.iadd, 1) := by decide +kernel
theorem dX1_bound_22 : decode cX1_bound 22 = .ok (.iaload, 1) := by decide +kernel
theorem dX1_bound_23 : decode cX1_bound 23 = .ok (.istore_n 3, 1) := by decide +kernel
theorem dX1_bound_24 : decode cX1_bound 24 = .ok (.iload_n 3, 1) := by decide +kernel
theorem dX1_bound_25 : decode cX1_bound 25 = .ok (.ifCond .ge 7, 3) := by decide +kernel
theorem dX1_bound_28 : decode cX1_bound 28 = .ok (.iload_n 3, 1) := by decide +kernel
theorem dX1_bound_29 : decode cX1_bound 29 = .ok (.goto 14, 3) := by decide +kernel
theorem dX1_bound_32 : decode cX1_bound 32 = .ok (.aload_n 0, 1) := by decide +kernel
theorem dX1_bound_33 : decode cX1_bound 33 = .ok (.getfield 19, 3) := by decide +kernel
theorem dX1_bound_36 : decode cX1_bound 36 = .ok (.iload_n 1, 1) := by decide +kernel
theorem dX1_bound_37 : decode cX1_bound 37 = .ok (.bipush 7, 2) := by decide +kernel
theorem dX1_bound_39 : decode cX1_bound 39 = .ok (.imul, 1) := by decide +kernel
theorem dX1_bound_40 : decode cX1_bound 40 = .ok (.iload_n 2, 1) := by decide +kernel
theorem dX1_bound_41 : decode cX1_bound 41 = .ok (.iadd, 1) := by decide +kernel
theorem dX1_bound_42 : decode cX1_bound 42 = .ok (.iaload, 1) := by decide +kernel
theorem dX1_bound_43 : decode cX1_bound 43 = .ok (.ireturn, 1) := by decide +kernel
theorem dX1_value_0 : decode cX1_value 0 = .ok (.aload_n 0, 1) := by decide +kernel
theorem dX1_value_1 : decode cX1_value 1 = .ok (.iload_n 1, 1) := by decide +kernel
theorem dX1_value_2 : decode cX1_value 2 = .ok (.iload_n 2, 1) := by decide +kernel
theorem dX1_value_3 : decode cX1_value 3 = .ok (.invokevirtual 118, 3) := by decide +kernel
theorem dX1_value_6 : decode cX1_value 6 = .ok (.ifCond .eq 5, 3) := by decide +kernel
theorem dX1_value_9 : decode cX1_value 9 = .ok (.iconst 0, 1) := by decide +kernel
theorem dX1_value_10 : decode cX1_value 10 = .ok (.ireturn, 1) := by decide +kernel
theorem dX1_value_11 : decode cX1_value 11 = .ok (.aload_n 0, 1) := by decide +kernel
theorem dX1_value_12 : decode cX1_value 12 = .ok (.getfield 16, 3) := by decide +kernel
theorem dX1_value_15 : decode cX1_value 15 = .ok (.iload_n 1, 1) := by decide +kernel
theorem dX1_value_16 : decode cX1_value 16 = .ok (.bipush 7, 2) := by decide +kernel
theorem dX1_value_18 : decode cX1_value 18 = .ok (.imul, 1) := by decide +kernel
theorem dX1_value_19 : decode cX1_value 19 = .ok (.iload_n 2, 1) := by decide +kernel
theorem dX1_value_20 : decode cX1_value 20 = .ok (.iadd, 1) := by decide +kernel
theorem dX1_value_21 : decode cX1_value 21 = .ok (.iaload, 1) := by decide +kernel
theorem dX1_value_22 : decode cX1_value 22 = .ok (.bipush (-6), 2) := by decide +kernel
theorem dX1_value_24 : decode cX1_value 24 = .ok (.if_icmp .ne 17, 3) := by decide +kernel
theorem dX1_value_27 : decode cX1_value 27 = .ok (.aload_n 0, 1) := by decide +kernel
theorem dX1_value_28 : decode cX1_value 28 = .ok (.getfield 22, 3) := by decide +kernel
theorem dX1_value_31 : decode cX1_value 31 = .ok (.iload_n 1, 1) := by decide +kernel
theorem dX1_value_32 : decode cX1_value 32 = .ok (.bipush 7, 2) := by decide +kernel
theorem dX1_value_34 : decode cX1_value 34 = .ok (.imul, 1) := by decide +kernel
theorem dX1_value_35 : decode cX1_value 35 = .ok (.iload_n 2, 1) := by decide +kernel
theorem dX1_value_36 : decode cX1_value 36 = .ok (.iadd, 1) := by decide +kernel
theorem dX1_value_37 : decode cX1_value 37 = .ok (.iaload, 1) := by decide +kernel
theorem dX1_value_38 : decode cX1_value 38 = .ok (.goto 4, 3) := by decide +kernel
theorem dX1_value_41 : decode cX1_value 41 = .ok (.iconst 0, 1) := by decide +kernel
theorem dX1_value_42 : decode cX1_value 42 = .ok (.ireturn, 1) := by decide +kernel
theorem dX1_rows_0 : decode cX1_rows 0 = .ok (.aload_n 0, 1) := by decide +kernel
theorem dX1_rows_1 : decode cX1_rows 1 = .ok (.iload_n 1, 1) := by decide +kernel
theorem dX1_rows_2 : decode cX1_rows 2 = .ok (.iload_n 2, 1) := by decide +kernel
theorem dX1_rows_3 : decode cX1_rows 3 = .ok (.invokevirtual 118, 3) := by decide +kernel
theorem dX1_rows_6 : decode cX1_rows 6 = .ok (.ifCond .eq 8, 3) := by decide +kernel
theorem dX1_rows_9 : decode cX1_rows 9 = .ok (.bipush (-5), 2) := by decide +kernel
theorem dX1_rows_11 : decode cX1_rows 11 = .ok (.goto 14, 3) := by decide +kernel
theorem dX1_rows_14 : decode cX1_rows 14 = .ok (.aload_n 0, 1) := by decide +kernel
theorem dX1_rows_15 : decode cX1_rows 15 = .ok (.getfield 25, 3) := by decide +kernel
theorem dX1_rows_18 : decode cX1_rows 18 = .ok (.iload_n 1, 1) := by decide +kernel
theorem dX1_rows_19 : decode cX1_rows 19 = .ok (.bipush 7, 2) := by decide +kernel
theorem dX1_rows_21 : decode cX1_rows 21 = .ok (.imul, 1) := by decide +kernel
theorem dX1_rows_22 : decode cX1_rows 22 = .ok (.iload_n 2, 1) := by decide +kernel
theorem dX1_rows_23 : decode cX1_rows 23 = .ok (.iadd, 1) := by decide +kernel
theorem dX1_rows_24 : decode cX1_rows 24 = .ok (.iaload, 1) := by decide +kernel
theorem dX1_rows_25 : decode cX1_rows 25 = .ok (.ireturn, 1) := by decide +kernel
end
section
/-! HistogramTreeModel -/
set_option maxRecDepth 100000
def RX2 : String := "HistogramTreeModel"
def TX2 : u_T := fun k => match k with
  | 0 => ("HistogramTreeModel", "leafSize", "I", true)
  | 1 => ("HistogramTreeModel", "count", "I", false)
  | 2 => ("HistogramTreeModel", "packed", "[I", true)
  | 3 => ("HistogramTreeModel", "targets", "[I", true)
  | 4 => ("HistogramTreeModel", "trees", "I", false)
  | 5 => ("HistogramTreeModel", "features", "[I", true)
  | 6 => ("HistogramTreeModel", "bounds", "[I", true)
  | 7 => ("HistogramTreeModel", "values", "[I", true)
  | 8 => ("HistogramTreeModel", "sizes", "[I", true)
  | 9 => ("HistogramTreeModel", "rests", "[I", true)
  | _ => ("HistogramTreeModel", "where", "[I", true)
def tyX2 : Nat → FieldType := fun k => match k with
  | 0 => .int
  | 1 => .int
  | 2 => .array .int
  | 3 => .array .int
  | 4 => .int
  | 5 => .array .int
  | 6 => .array .int
  | 7 => .array .int
  | 8 => .array .int
  | 9 => .array .int
  | _ => .array .int
abbrev wsX20 : List Cond := u_ws RX2 TX2 11
theorem nmX2 : ∀ a, a < 11 → ∀ b, b < 11 → a ≠ b → (TX2 a).2.1 ≠ (TX2 b).2.1 := by decide +kernel
theorem tyX2_ok : ∀ k, k < 11 → parseFieldDescriptor (TX2 k).2.2.1 = some (tyX2 k) := by decide +kernel
abbrev cX2_init : ByteArray := prog_3_method_1_code
def yX2_init : MethodName := ⟨RX2, "<init>", "(I)V"⟩
abbrev cX2_row : ByteArray := prog_3_method_3_code
def yX2_row : MethodName := ⟨RX2, "row", "(II)I"⟩
abbrev cX2_badTarget : ByteArray := prog_3_method_2_code
def yX2_badTarget : MethodName := ⟨RX2, "badTarget", "(I)Z"⟩
abbrev cX2_retarget : ByteArray := prog_3_method_4_code
def yX2_retarget : MethodName := ⟨RX2, "retarget", "(II)I"⟩
abbrev cX2_train : ByteArray := prog_3_method_10_code
def yX2_train : MethodName := ⟨RX2, "train", "()I"⟩
abbrev cX2_rest : ByteArray := prog_3_method_16_code
def yX2_rest : MethodName := ⟨RX2, "rest", "(I)I"⟩
abbrev cX2_predict : ByteArray := prog_3_method_15_code
def yX2_predict : MethodName := ⟨RX2, "predict", "(I)I"⟩
abbrev cX2_leafValue : ByteArray := prog_3_method_14_code
def yX2_leafValue : MethodName := ⟨RX2, "leafValue", "(II)I"⟩
abbrev cX2_cell : ByteArray := prog_3_method_5_code
def yX2_cell : MethodName := ⟨RX2, "cell", "(II)I"⟩
abbrev cX2_settle : ByteArray := prog_3_method_11_code
def yX2_settle : MethodName := ⟨RX2, "settle", "(II)V"⟩
abbrev cX2_rowsOf : ByteArray := prog_3_method_6_code
def yX2_rowsOf : MethodName := ⟨RX2, "rowsOf", "(III)I"⟩
abbrev cX2_sumOf : ByteArray := prog_3_method_7_code
def yX2_sumOf : MethodName := ⟨RX2, "sumOf", "(III)J"⟩
abbrev cX2_split : ByteArray := prog_3_method_8_code
def yX2_split : MethodName := ⟨RX2, "split", "(II)V"⟩
abbrev cX2_send : ByteArray := prog_3_method_9_code
def yX2_send : MethodName := ⟨RX2, "send", "(II)V"⟩
abbrev cX2_dropTree : ByteArray := prog_3_method_12_code
def yX2_dropTree : MethodName := ⟨RX2, "dropTree", "()I"⟩
abbrev cX2_clear : ByteArray := prog_3_method_13_code
def yX2_clear : MethodName := ⟨RX2, "clear", "()V"⟩
abbrev cX2_loss : ByteArray := prog_3_method_17_code
def yX2_loss : MethodName := ⟨RX2, "loss", "()I"⟩
abbrev cX2_feature : ByteArray := prog_3_method_19_code
def yX2_feature : MethodName := ⟨RX2, "feature", "(II)I"⟩
abbrev cX2_none : ByteArray := prog_3_method_18_code
def yX2_none : MethodName := ⟨RX2, "none", "(II)Z"⟩
abbrev cX2_bound : ByteArray := prog_3_method_20_code
def yX2_bound : MethodName := ⟨RX2, "bound", "(II)I"⟩
abbrev cX2_value : ByteArray := prog_3_method_21_code
def yX2_value : MethodName := ⟨RX2, "value", "(II)I"⟩
abbrev cX2_rows : ByteArray := prog_3_method_22_code
def yX2_rows : MethodName := ⟨RX2, "rows", "(II)I"⟩
theorem q27 : (Jvm.Cond.initialized "HistogramTreeModel") ∈ lw_all := lw_g (lw_at lw_m1 2 rfl) rfl
theorem q208 : (Jvm.Cond.instantiable "HistogramTreeModel" (11 : Nat)) ∈ lw_all := lw_g (lw_at lw_m1 183 rfl) rfl
theorem q210 : (Jvm.Cond.instanceMethod ({ cls := "HistogramTreeModel", name := "<init>", desc := "(I)V" } : Jvm.MethodName)) ∈ lw_all := lw_g (lw_at lw_m1 185 rfl) rfl
theorem q211 : (Jvm.Cond.code ({ cls := "HistogramTreeModel", name := "<init>", desc := "(I)V" } : Jvm.MethodName) prog_3_method_1_code (3 : Nat) (Option.none : Option Jvm.ClassFile.FieldType)) ∈ lw_all := lw_g (lw_at lw_m1 186 rfl) rfl
theorem q212 : (Jvm.Cond.methodLink "HistogramTreeModel" (1 : Nat) ({ cls := "java/lang/Object", name := "<init>", desc := "()V" } : Jvm.MethodName)) ∈ lw_all := lw_g (lw_at lw_m1 187 rfl) rfl
theorem q213 : (Jvm.Cond.fieldLink "HistogramTreeModel" (34 : Nat) "HistogramTreeModel" "leafSize" "I") ∈ lw_all := lw_g (lw_at lw_m1 188 rfl) rfl
theorem q214 : (Jvm.Cond.fieldLink "HistogramTreeModel" (42 : Nat) "HistogramTreeModel" "count" "I") ∈ lw_all := lw_g (lw_at lw_m1 189 rfl) rfl
theorem q215 : (Jvm.Cond.fieldLink "HistogramTreeModel" (7 : Nat) "HistogramTreeModel" "packed" "[I") ∈ lw_all := lw_g (lw_at lw_m1 190 rfl) rfl
theorem q216 : (Jvm.Cond.fieldLink "HistogramTreeModel" (13 : Nat) "HistogramTreeModel" "targets" "[I") ∈ lw_all := lw_g (lw_at lw_m1 191 rfl) rfl
theorem q217 : (Jvm.Cond.fieldLink "HistogramTreeModel" (61 : Nat) "HistogramTreeModel" "trees" "I") ∈ lw_all := lw_g (lw_at lw_m1 192 rfl) rfl
theorem q218 : (Jvm.Cond.fieldLink "HistogramTreeModel" (16 : Nat) "HistogramTreeModel" "features" "[I") ∈ lw_all := lw_g (lw_at lw_m1 193 rfl) rfl
theorem q219 : (Jvm.Cond.fieldLink "HistogramTreeModel" (19 : Nat) "HistogramTreeModel" "bounds" "[I") ∈ lw_all := lw_g (lw_at lw_m1 194 rfl) rfl
theorem q220 : (Jvm.Cond.fieldLink "HistogramTreeModel" (22 : Nat) "HistogramTreeModel" "values" "[I") ∈ lw_all := lw_g (lw_at lw_m1 195 rfl) rfl
theorem q221 : (Jvm.Cond.fieldLink "HistogramTreeModel" (25 : Nat) "HistogramTreeModel" "sizes" "[I") ∈ lw_all := lw_g (lw_at lw_m1 196 rfl) rfl
theorem q222 : (Jvm.Cond.fieldLink "HistogramTreeModel" (28 : Nat) "HistogramTreeModel" "rests" "[I") ∈ lw_all := lw_g (lw_at lw_m1 197 rfl) rfl
theorem q223 : (Jvm.Cond.fieldLink "HistogramTreeModel" (31 : Nat) "HistogramTreeModel" "where" "[I") ∈ lw_all := lw_g (lw_at lw_m1 198 rfl) rfl
theorem q224 : (Jvm.Cond.laysFinal "HistogramTreeModel" "HistogramTreeModel" "leafSize" "I") ∈ lw_all := lw_g (lw_at lw_m1 199 rfl) rfl
theorem q225 : (Jvm.Cond.soleField "HistogramTreeModel" "leafSize") ∈ lw_all := lw_g (lw_at lw_m1 200 rfl) rfl
theorem q226 : (Jvm.Cond.lays "HistogramTreeModel" "HistogramTreeModel" "count" "I") ∈ lw_all := lw_g (lw_at lw_m1 201 rfl) rfl
theorem q227 : (Jvm.Cond.soleField "HistogramTreeModel" "count") ∈ lw_all := lw_g (lw_at lw_m1 202 rfl) rfl
theorem q228 : (Jvm.Cond.laysFinal "HistogramTreeModel" "HistogramTreeModel" "packed" "[I") ∈ lw_all := lw_g (lw_at lw_m1 203 rfl) rfl
theorem q229 : (Jvm.Cond.soleField "HistogramTreeModel" "packed") ∈ lw_all := lw_g (lw_at lw_m1 204 rfl) rfl
theorem q230 : (Jvm.Cond.laysFinal "HistogramTreeModel" "HistogramTreeModel" "targets" "[I") ∈ lw_all := lw_g (lw_at lw_m1 205 rfl) rfl
theorem q231 : (Jvm.Cond.soleField "HistogramTreeModel" "targets") ∈ lw_all := lw_g (lw_at lw_m1 206 rfl) rfl
theorem q232 : (Jvm.Cond.lays "HistogramTreeModel" "HistogramTreeModel" "trees" "I") ∈ lw_all := lw_g (lw_at lw_m1 207 rfl) rfl
theorem q233 : (Jvm.Cond.soleField "HistogramTreeModel" "trees") ∈ lw_all := lw_g (lw_at lw_m1 208 rfl) rfl
theorem q234 : (Jvm.Cond.laysFinal "HistogramTreeModel" "HistogramTreeModel" "features" "[I") ∈ lw_all := lw_g (lw_at lw_m1 209 rfl) rfl
theorem q235 : (Jvm.Cond.soleField "HistogramTreeModel" "features") ∈ lw_all := lw_g (lw_at lw_m1 210 rfl) rfl
theorem q236 : (Jvm.Cond.laysFinal "HistogramTreeModel" "HistogramTreeModel" "bounds" "[I") ∈ lw_all := lw_g (lw_at lw_m1 211 rfl) rfl
theorem q237 : (Jvm.Cond.soleField "HistogramTreeModel" "bounds") ∈ lw_all := lw_g (lw_at lw_m1 212 rfl) rfl
theorem q238 : (Jvm.Cond.laysFinal "HistogramTreeModel" "HistogramTreeModel" "values" "[I") ∈ lw_all := lw_g (lw_at lw_m1 213 rfl) rfl
theorem q239 : (Jvm.Cond.soleField "HistogramTreeModel" "values") ∈ lw_all := lw_g (lw_at lw_m1 214 rfl) rfl
theorem q240 : (Jvm.Cond.laysFinal "HistogramTreeModel" "HistogramTreeModel" "sizes" "[I") ∈ lw_all := lw_g (lw_at lw_m1 215 rfl) rfl
theorem q241 : (Jvm.Cond.soleField "HistogramTreeModel" "sizes") ∈ lw_all := lw_g (lw_at lw_m1 216 rfl) rfl
theorem q242 : (Jvm.Cond.laysFinal "HistogramTreeModel" "HistogramTreeModel" "rests" "[I") ∈ lw_all := lw_g (lw_at lw_m1 217 rfl) rfl
theorem q243 : (Jvm.Cond.soleField "HistogramTreeModel" "rests") ∈ lw_all := lw_g (lw_at lw_m1 218 rfl) rfl
theorem q244 : (Jvm.Cond.laysFinal "HistogramTreeModel" "HistogramTreeModel" "where" "[I") ∈ lw_all := lw_g (lw_at lw_m1 219 rfl) rfl
theorem q245 : (Jvm.Cond.soleField "HistogramTreeModel" "where") ∈ lw_all := lw_g (lw_at lw_m1 220 rfl) rfl
theorem q246 : (Jvm.Cond.superclass "HistogramTreeModel" "java/lang/Object") ∈ lw_all := lw_g (lw_at lw_m1 221 rfl) rfl
theorem q248 : (Jvm.Cond.instanceMethod ({ cls := "HistogramTreeModel", name := "row", desc := "(II)I" } : Jvm.MethodName)) ∈ lw_all := lw_g (lw_at lw_m1 223 rfl) rfl
theorem q249 : (Jvm.Cond.selects "HistogramTreeModel" ({ cls := "HistogramTreeModel", name := "row", desc := "(II)I" } : Jvm.MethodName) ({ cls := "HistogramTreeModel", name := "row", desc := "(II)I" } : Jvm.MethodName)) ∈ lw_all := lw_g (lw_at lw_m1 224 rfl) rfl
theorem q250 : (Jvm.Cond.code ({ cls := "HistogramTreeModel", name := "row", desc := "(II)I" } : Jvm.MethodName) prog_3_method_3_code (3 : Nat) (Option.some Jvm.ClassFile.FieldType.int)) ∈ lw_all := lw_g (lw_at lw_m1 225 rfl) rfl
theorem q251 : (Jvm.Cond.methodLink "HistogramTreeModel" (38 : Nat) ({ cls := "HistogramTreeModel", name := "badTarget", desc := "(I)Z" } : Jvm.MethodName)) ∈ lw_all := lw_g (lw_at lw_m1 226 rfl) rfl
theorem q252 : (Jvm.Cond.privateMethod ({ cls := "HistogramTreeModel", name := "badTarget", desc := "(I)Z" } : Jvm.MethodName)) ∈ lw_tbl := lw_at lw_m1 227 rfl
theorem q253 : (Jvm.Cond.instanceMethod ({ cls := "HistogramTreeModel", name := "badTarget", desc := "(I)Z" } : Jvm.MethodName)) ∈ lw_all := lw_g (lw_at lw_m1 228 rfl) rfl
theorem q254 : (Jvm.Cond.code ({ cls := "HistogramTreeModel", name := "badTarget", desc := "(I)Z" } : Jvm.MethodName) prog_3_method_2_code (2 : Nat) (Option.some Jvm.ClassFile.FieldType.boolean)) ∈ lw_all := lw_g (lw_at lw_m1 229 rfl) rfl
theorem q256 : (Jvm.Cond.instanceMethod ({ cls := "HistogramTreeModel", name := "retarget", desc := "(II)I" } : Jvm.MethodName)) ∈ lw_all := lw_g (lw_at lw_m1 231 rfl) rfl
theorem q257 : (Jvm.Cond.selects "HistogramTreeModel" ({ cls := "HistogramTreeModel", name := "retarget", desc := "(II)I" } : Jvm.MethodName) ({ cls := "HistogramTreeModel", name := "retarget", desc := "(II)I" } : Jvm.MethodName)) ∈ lw_all := lw_g (lw_at lw_m1 232 rfl) rfl
theorem q258 : (Jvm.Cond.code ({ cls := "HistogramTreeModel", name := "retarget", desc := "(II)I" } : Jvm.MethodName) prog_3_method_4_code (4 : Nat) (Option.some Jvm.ClassFile.FieldType.int)) ∈ lw_all := lw_g (lw_at lw_m1 233 rfl) rfl
theorem q260 : (Jvm.Cond.instanceMethod ({ cls := "HistogramTreeModel", name := "train", desc := "()I" } : Jvm.MethodName)) ∈ lw_all := lw_g (lw_at lw_m1 235 rfl) rfl
theorem q261 : (Jvm.Cond.selects "HistogramTreeModel" ({ cls := "HistogramTreeModel", name := "train", desc := "()I" } : Jvm.MethodName) ({ cls := "HistogramTreeModel", name := "train", desc := "()I" } : Jvm.MethodName)) ∈ lw_all := lw_g (lw_at lw_m1 236 rfl) rfl
theorem q262 : (Jvm.Cond.code ({ cls := "HistogramTreeModel", name := "train", desc := "()I" } : Jvm.MethodName) prog_3_method_10_code (4 : Nat) (Option.some Jvm.ClassFile.FieldType.int)) ∈ lw_all := lw_g (lw_at lw_m1 237 rfl) rfl
theorem q263 : (Jvm.Cond.methodLink "HistogramTreeModel" (64 : Nat) ({ cls := "HistogramTreeModel", name := "rest", desc := "(I)I" } : Jvm.MethodName)) ∈ lw_all := lw_g (lw_at lw_m1 238 rfl) rfl
theorem q264 : (Jvm.Cond.instanceMethod ({ cls := "HistogramTreeModel", name := "rest", desc := "(I)I" } : Jvm.MethodName)) ∈ lw_all := lw_g (lw_at lw_m1 239 rfl) rfl
theorem q265 : (Jvm.Cond.selects "HistogramTreeModel" ({ cls := "HistogramTreeModel", name := "rest", desc := "(I)I" } : Jvm.MethodName) ({ cls := "HistogramTreeModel", name := "rest", desc := "(I)I" } : Jvm.MethodName)) ∈ lw_all := lw_g (lw_at lw_m2 0 rfl) rfl
theorem q266 : (Jvm.Cond.code ({ cls := "HistogramTreeModel", name := "rest", desc := "(I)I" } : Jvm.MethodName) prog_3_method_16_code (2 : Nat) (Option.some Jvm.ClassFile.FieldType.int)) ∈ lw_all := lw_g (lw_at lw_m2 1 rfl) rfl
theorem q267 : (Jvm.Cond.methodLink "HistogramTreeModel" (77 : Nat) ({ cls := "HistogramTreeModel", name := "predict", desc := "(I)I" } : Jvm.MethodName)) ∈ lw_all := lw_g (lw_at lw_m2 2 rfl) rfl
theorem q268 : (Jvm.Cond.instanceMethod ({ cls := "HistogramTreeModel", name := "predict", desc := "(I)I" } : Jvm.MethodName)) ∈ lw_all := lw_g (lw_at lw_m2 3 rfl) rfl
theorem q269 : (Jvm.Cond.selects "HistogramTreeModel" ({ cls := "HistogramTreeModel", name := "predict", desc := "(I)I" } : Jvm.MethodName) ({ cls := "HistogramTreeModel", name := "predict", desc := "(I)I" } : Jvm.MethodName)) ∈ lw_all := lw_g (lw_at lw_m2 4 rfl) rfl
theorem q270 : (Jvm.Cond.code ({ cls := "HistogramTreeModel", name := "predict", desc := "(I)I" } : Jvm.MethodName) prog_3_method_15_code (5 : Nat) (Option.some Jvm.ClassFile.FieldType.int)) ∈ lw_all := lw_g (lw_at lw_m2 5 rfl) rfl
theorem q271 : (Jvm.Cond.methodLink "HistogramTreeModel" (74 : Nat) ({ cls := "HistogramTreeModel", name := "leafValue", desc := "(II)I" } : Jvm.MethodName)) ∈ lw_all := lw_g (lw_at lw_m2 6 rfl) rfl
theorem q272 : (Jvm.Cond.privateMethod ({ cls := "HistogramTreeModel", name := "leafValue", desc := "(II)I" } : Jvm.MethodName)) ∈ lw_tbl := lw_at lw_m2 7 rfl
theorem q273 : (Jvm.Cond.instanceMethod ({ cls := "HistogramTreeModel", name := "leafValue", desc := "(II)I" } : Jvm.MethodName)) ∈ lw_all := lw_g (lw_at lw_m2 8 rfl) rfl
theorem q274 : (Jvm.Cond.code ({ cls := "HistogramTreeModel", name := "leafValue", desc := "(II)I" } : Jvm.MethodName) prog_3_method_14_code (6 : Nat) (Option.some Jvm.ClassFile.FieldType.int)) ∈ lw_all := lw_g (lw_at lw_m2 9 rfl) rfl
theorem q275 : (Jvm.Cond.methodLink "HistogramTreeModel" (45 : Nat) ({ cls := "HistogramTreeModel", name := "cell", desc := "(II)I" } : Jvm.MethodName)) ∈ lw_all := lw_g (lw_at lw_m2 10 rfl) rfl
theorem q276 : (Jvm.Cond.privateMethod ({ cls := "HistogramTreeModel", name := "cell", desc := "(II)I" } : Jvm.MethodName)) ∈ lw_tbl := lw_at lw_m2 11 rfl
theorem q277 : (Jvm.Cond.instanceMethod ({ cls := "HistogramTreeModel", name := "cell", desc := "(II)I" } : Jvm.MethodName)) ∈ lw_all := lw_g (lw_at lw_m2 12 rfl) rfl
theorem q278 : (Jvm.Cond.code ({ cls := "HistogramTreeModel", name := "cell", desc := "(II)I" } : Jvm.MethodName) prog_3_method_5_code (3 : Nat) (Option.some Jvm.ClassFile.FieldType.int)) ∈ lw_all := lw_g (lw_at lw_m2 13 rfl) rfl
theorem q279 : (Jvm.Cond.methodLink "HistogramTreeModel" (68 : Nat) ({ cls := "HistogramTreeModel", name := "settle", desc := "(II)V" } : Jvm.MethodName)) ∈ lw_all := lw_g (lw_at lw_m2 14 rfl) rfl
theorem q280 : (Jvm.Cond.privateMethod ({ cls := "HistogramTreeModel", name := "settle", desc := "(II)V" } : Jvm.MethodName)) ∈ lw_tbl := lw_at lw_m2 15 rfl
theorem q281 : (Jvm.Cond.instanceMethod ({ cls := "HistogramTreeModel", name := "settle", desc := "(II)V" } : Jvm.MethodName)) ∈ lw_all := lw_g (lw_at lw_m2 16 rfl) rfl
theorem q282 : (Jvm.Cond.code ({ cls := "HistogramTreeModel", name := "settle", desc := "(II)V" } : Jvm.MethodName) prog_3_method_11_code (6 : Nat) (Option.none : Option Jvm.ClassFile.FieldType)) ∈ lw_all := lw_g (lw_at lw_m2 17 rfl) rfl
theorem q283 : (Jvm.Cond.methodLink "HistogramTreeModel" (49 : Nat) ({ cls := "HistogramTreeModel", name := "rowsOf", desc := "(III)I" } : Jvm.MethodName)) ∈ lw_all := lw_g (lw_at lw_m2 18 rfl) rfl
theorem q284 : (Jvm.Cond.privateMethod ({ cls := "HistogramTreeModel", name := "rowsOf", desc := "(III)I" } : Jvm.MethodName)) ∈ lw_tbl := lw_at lw_m2 19 rfl
theorem q285 : (Jvm.Cond.instanceMethod ({ cls := "HistogramTreeModel", name := "rowsOf", desc := "(III)I" } : Jvm.MethodName)) ∈ lw_all := lw_g (lw_at lw_m2 20 rfl) rfl
theorem q286 : (Jvm.Cond.code ({ cls := "HistogramTreeModel", name := "rowsOf", desc := "(III)I" } : Jvm.MethodName) prog_3_method_6_code (6 : Nat) (Option.some Jvm.ClassFile.FieldType.int)) ∈ lw_all := lw_g (lw_at lw_m2 21 rfl) rfl
theorem q287 : (Jvm.Cond.methodLink "HistogramTreeModel" (53 : Nat) ({ cls := "HistogramTreeModel", name := "sumOf", desc := "(III)J" } : Jvm.MethodName)) ∈ lw_all := lw_g (lw_at lw_m2 22 rfl) rfl
theorem q288 : (Jvm.Cond.privateMethod ({ cls := "HistogramTreeModel", name := "sumOf", desc := "(III)J" } : Jvm.MethodName)) ∈ lw_tbl := lw_at lw_m2 23 rfl
theorem q289 : (Jvm.Cond.instanceMethod ({ cls := "HistogramTreeModel", name := "sumOf", desc := "(III)J" } : Jvm.MethodName)) ∈ lw_all := lw_g (lw_at lw_m2 24 rfl) rfl
theorem q290 : (Jvm.Cond.code ({ cls := "HistogramTreeModel", name := "sumOf", desc := "(III)J" } : Jvm.MethodName) prog_3_method_7_code (7 : Nat) (Option.some Jvm.ClassFile.FieldType.long)) ∈ lw_all := lw_g (lw_at lw_m2 25 rfl) rfl
theorem q291 : (Jvm.Cond.methodLink "HistogramTreeModel" (71 : Nat) ({ cls := "HistogramTreeModel", name := "split", desc := "(II)V" } : Jvm.MethodName)) ∈ lw_all := lw_g (lw_at lw_m2 26 rfl) rfl
theorem q292 : (Jvm.Cond.privateMethod ({ cls := "HistogramTreeModel", name := "split", desc := "(II)V" } : Jvm.MethodName)) ∈ lw_tbl := lw_at lw_m2 27 rfl
theorem q293 : (Jvm.Cond.instanceMethod ({ cls := "HistogramTreeModel", name := "split", desc := "(II)V" } : Jvm.MethodName)) ∈ lw_all := lw_g (lw_at lw_m2 28 rfl) rfl
theorem q294 : (Jvm.Cond.code ({ cls := "HistogramTreeModel", name := "split", desc := "(II)V" } : Jvm.MethodName) prog_3_method_8_code (24 : Nat) (Option.none : Option Jvm.ClassFile.FieldType)) ∈ lw_all := lw_g (lw_at lw_m2 29 rfl) rfl
theorem q295 : (Jvm.Cond.methodLink "HistogramTreeModel" (57 : Nat) ({ cls := "HistogramTreeModel", name := "send", desc := "(II)V" } : Jvm.MethodName)) ∈ lw_all := lw_g (lw_at lw_m2 30 rfl) rfl
theorem q296 : (Jvm.Cond.privateMethod ({ cls := "HistogramTreeModel", name := "send", desc := "(II)V" } : Jvm.MethodName)) ∈ lw_tbl := lw_at lw_m2 31 rfl
theorem q297 : (Jvm.Cond.instanceMethod ({ cls := "HistogramTreeModel", name := "send", desc := "(II)V" } : Jvm.MethodName)) ∈ lw_all := lw_g (lw_at lw_m2 32 rfl) rfl
theorem q298 : (Jvm.Cond.code ({ cls := "HistogramTreeModel", name := "send", desc := "(II)V" } : Jvm.MethodName) prog_3_method_9_code (5 : Nat) (Option.none : Option Jvm.ClassFile.FieldType)) ∈ lw_all := lw_g (lw_at lw_m2 33 rfl) rfl
theorem q300 : (Jvm.Cond.instanceMethod ({ cls := "HistogramTreeModel", name := "dropTree", desc := "()I" } : Jvm.MethodName)) ∈ lw_all := lw_g (lw_at lw_m2 35 rfl) rfl
theorem q301 : (Jvm.Cond.selects "HistogramTreeModel" ({ cls := "HistogramTreeModel", name := "dropTree", desc := "()I" } : Jvm.MethodName) ({ cls := "HistogramTreeModel", name := "dropTree", desc := "()I" } : Jvm.MethodName)) ∈ lw_all := lw_g (lw_at lw_m2 36 rfl) rfl
theorem q302 : (Jvm.Cond.code ({ cls := "HistogramTreeModel", name := "dropTree", desc := "()I" } : Jvm.MethodName) prog_3_method_12_code (1 : Nat) (Option.some Jvm.ClassFile.FieldType.int)) ∈ lw_all := lw_g (lw_at lw_m2 37 rfl) rfl
theorem q304 : (Jvm.Cond.instanceMethod ({ cls := "HistogramTreeModel", name := "clear", desc := "()V" } : Jvm.MethodName)) ∈ lw_all := lw_g (lw_at lw_m2 39 rfl) rfl
theorem q305 : (Jvm.Cond.selects "HistogramTreeModel" ({ cls := "HistogramTreeModel", name := "clear", desc := "()V" } : Jvm.MethodName) ({ cls := "HistogramTreeModel", name := "clear", desc := "()V" } : Jvm.MethodName)) ∈ lw_all := lw_g (lw_at lw_m2 40 rfl) rfl
theorem q306 : (Jvm.Cond.code ({ cls := "HistogramTreeModel", name := "clear", desc := "()V" } : Jvm.MethodName) prog_3_method_13_code (1 : Nat) (Option.none : Option Jvm.ClassFile.FieldType)) ∈ lw_all := lw_g (lw_at lw_m2 41 rfl) rfl
theorem q310 : (Jvm.Cond.instanceMethod ({ cls := "HistogramTreeModel", name := "loss", desc := "()I" } : Jvm.MethodName)) ∈ lw_all := lw_g (lw_at lw_m2 45 rfl) rfl
theorem q311 : (Jvm.Cond.selects "HistogramTreeModel" ({ cls := "HistogramTreeModel", name := "loss", desc := "()I" } : Jvm.MethodName) ({ cls := "HistogramTreeModel", name := "loss", desc := "()I" } : Jvm.MethodName)) ∈ lw_all := lw_g (lw_at lw_m2 46 rfl) rfl
theorem q312 : (Jvm.Cond.code ({ cls := "HistogramTreeModel", name := "loss", desc := "()I" } : Jvm.MethodName) prog_3_method_17_code (4 : Nat) (Option.some Jvm.ClassFile.FieldType.int)) ∈ lw_all := lw_g (lw_at lw_m2 47 rfl) rfl
theorem q314 : (Jvm.Cond.instanceMethod ({ cls := "HistogramTreeModel", name := "feature", desc := "(II)I" } : Jvm.MethodName)) ∈ lw_all := lw_g (lw_at lw_m2 49 rfl) rfl
theorem q315 : (Jvm.Cond.selects "HistogramTreeModel" ({ cls := "HistogramTreeModel", name := "feature", desc := "(II)I" } : Jvm.MethodName) ({ cls := "HistogramTreeModel", name := "feature", desc := "(II)I" } : Jvm.MethodName)) ∈ lw_all := lw_g (lw_at lw_m2 50 rfl) rfl
theorem q316 : (Jvm.Cond.code ({ cls := "HistogramTreeModel", name := "feature", desc := "(II)I" } : Jvm.MethodName) prog_3_method_19_code (3 : Nat) (Option.some Jvm.ClassFile.FieldType.int)) ∈ lw_all := lw_g (lw_at lw_m2 51 rfl) rfl
theorem q317 : (Jvm.Cond.methodLink "HistogramTreeModel" (80 : Nat) ({ cls := "HistogramTreeModel", name := "none", desc := "(II)Z" } : Jvm.MethodName)) ∈ lw_all := lw_g (lw_at lw_m2 52 rfl) rfl
theorem q318 : (Jvm.Cond.privateMethod ({ cls := "HistogramTreeModel", name := "none", desc := "(II)Z" } : Jvm.MethodName)) ∈ lw_tbl := lw_at lw_m2 53 rfl
theorem q319 : (Jvm.Cond.instanceMethod ({ cls := "HistogramTreeModel", name := "none", desc := "(II)Z" } : Jvm.MethodName)) ∈ lw_all := lw_g (lw_at lw_m2 54 rfl) rfl
theorem q320 : (Jvm.Cond.code ({ cls := "HistogramTreeModel", name := "none", desc := "(II)Z" } : Jvm.MethodName) prog_3_method_18_code (3 : Nat) (Option.some Jvm.ClassFile.FieldType.boolean)) ∈ lw_all := lw_g (lw_at lw_m2 55 rfl) rfl
theorem q322 : (Jvm.Cond.instanceMethod ({ cls := "HistogramTreeModel", name := "bound", desc := "(II)I" } : Jvm.MethodName)) ∈ lw_all := lw_g (lw_at lw_m2 57 rfl) rfl
theorem q323 : (Jvm.Cond.selects "HistogramTreeModel" ({ cls := "HistogramTreeModel", name := "bound", desc := "(II)I" } : Jvm.MethodName) ({ cls := "HistogramTreeModel", name := "bound", desc := "(II)I" } : Jvm.MethodName)) ∈ lw_all := lw_g (lw_at lw_m2 58 rfl) rfl
theorem q324 : (Jvm.Cond.code ({ cls := "HistogramTreeModel", name := "bound", desc := "(II)I" } : Jvm.MethodName) prog_3_method_20_code (4 : Nat) (Option.some Jvm.ClassFile.FieldType.int)) ∈ lw_all := lw_g (lw_at lw_m2 59 rfl) rfl
theorem q326 : (Jvm.Cond.instanceMethod ({ cls := "HistogramTreeModel", name := "value", desc := "(II)I" } : Jvm.MethodName)) ∈ lw_all := lw_g (lw_at lw_m2 61 rfl) rfl
theorem q327 : (Jvm.Cond.selects "HistogramTreeModel" ({ cls := "HistogramTreeModel", name := "value", desc := "(II)I" } : Jvm.MethodName) ({ cls := "HistogramTreeModel", name := "value", desc := "(II)I" } : Jvm.MethodName)) ∈ lw_all := lw_g (lw_at lw_m2 62 rfl) rfl
theorem q328 : (Jvm.Cond.code ({ cls := "HistogramTreeModel", name := "value", desc := "(II)I" } : Jvm.MethodName) prog_3_method_21_code (3 : Nat) (Option.some Jvm.ClassFile.FieldType.int)) ∈ lw_all := lw_g (lw_at lw_m2 63 rfl) rfl
theorem q330 : (Jvm.Cond.instanceMethod ({ cls := "HistogramTreeModel", name := "rows", desc := "(II)I" } : Jvm.MethodName)) ∈ lw_all := lw_g (lw_at lw_m2 65 rfl) rfl
theorem q331 : (Jvm.Cond.selects "HistogramTreeModel" ({ cls := "HistogramTreeModel", name := "rows", desc := "(II)I" } : Jvm.MethodName) ({ cls := "HistogramTreeModel", name := "rows", desc := "(II)I" } : Jvm.MethodName)) ∈ lw_all := lw_g (lw_at lw_m2 66 rfl) rfl
theorem q332 : (Jvm.Cond.code ({ cls := "HistogramTreeModel", name := "rows", desc := "(II)I" } : Jvm.MethodName) prog_3_method_22_code (3 : Nat) (Option.some Jvm.ClassFile.FieldType.int)) ∈ lw_all := lw_g (lw_at lw_m2 67 rfl) rfl
theorem in_X2 : ∀ w ∈ wsX20, w ∈ lw_all := lw_in wsX20 [224, 226, 228, 230, 232, 234, 236, 238, 240, 242, 244] (by decide +kernel) (by decide +kernel)

theorem dX2_init_0 : decode cX2_init 0 = .ok (.aload_n 0, 1) := by decide +kernel
theorem dX2_init_1 : decode cX2_init 1 = .ok (.invokespecial 1, 3) := by decide +kernel
theorem dX2_init_4 : decode cX2_init 4 = .ok (.aload_n 0, 1) := by decide +kernel
theorem dX2_init_5 : decode cX2_init 5 = .ok (.bipush 24, 2) := by decide +kernel
theorem dX2_init_7 : decode cX2_init 7 = .ok (.newarray .int, 2) := by decide +kernel
theorem dX2_init_9 : decode cX2_init 9 = .ok (.putfield 7, 3) := by decide +kernel
theorem dX2_init_12 : decode cX2_init 12 = .ok (.aload_n 0, 1) := by decide +kernel
theorem dX2_init_13 : decode cX2_init 13 = .ok (.bipush 24, 2) := by decide +kernel
theorem dX2_init_15 : decode cX2_init 15 = .ok (.newarray .int, 2) := by decide +kernel
theorem dX2_init_17 : decode cX2_init 17 = .ok (.putfield 13, 3) := by decide +kernel
theorem dX2_init_20 : decode cX2_init 20 = .ok (.aload_n 0, 1) := by decide +kernel
theorem dX2_init_21 : decode cX2_init 21 = .ok (.bipush 28, 2) := by decide +kernel
theorem dX2_init_23 : decode cX2_init 23 = .ok (.newarray .int, 2) := by decide +kernel
theorem dX2_init_25 : decode cX2_init 25 = .ok (.putfield 16, 3) := by decide +kernel
theorem dX2_init_28 : decode cX2_init 28 = .ok (.aload_n 0, 1) := by decide +kernel
theorem dX2_init_29 : decode cX2_init 29 = .ok (.bipush 28, 2) := by decide +kernel
theorem dX2_init_31 : decode cX2_init 31 = .ok (.newarray .int, 2) := by decide +kernel
theorem dX2_init_33 : decode cX2_init 33 = .ok (.putfield 19, 3) := by decide +kernel
theorem dX2_init_36 : decode cX2_init 36 = .ok (.aload_n 0, 1) := by decide +kernel
theorem dX2_init_37 : decode cX2_init 37 = .ok (.bipush 28, 2) := by decide +kernel
theorem dX2_init_39 : decode cX2_init 39 = .ok (.newarray .int, 2) := by decide +kernel
theorem dX2_init_41 : decode cX2_init 41 = .ok (.putfield 22, 3) := by decide +kernel
theorem dX2_init_44 : decode cX2_init 44 = .ok (.aload_n 0, 1) := by decide +kernel
theorem dX2_init_45 : decode cX2_init 45 = .ok (.bipush 28, 2) := by decide +kernel
theorem dX2_init_47 : decode cX2_init 47 = .ok (.newarray .int, 2) := by decide +kernel
theorem dX2_init_49 : decode cX2_init 49 = .ok (.putfield 25, 3) := by decide +kernel
theorem dX2_init_52 : decode cX2_init 52 = .ok (.aload_n 0, 1) := by decide +kernel
theorem dX2_init_53 : decode cX2_init 53 = .ok (.bipush 24, 2) := by decide +kernel
theorem dX2_init_55 : decode cX2_init 55 = .ok (.newarray .int, 2) := by decide +kernel
theorem dX2_init_57 : decode cX2_init 57 = .ok (.putfield 28, 3) := by decide +kernel
theorem dX2_init_60 : decode cX2_init 60 = .ok (.aload_n 0, 1) := by decide +kernel
theorem dX2_init_61 : decode cX2_init 61 = .ok (.bipush 24, 2) := by decide +kernel
theorem dX2_init_63 : decode cX2_init 63 = .ok (.newarray .int, 2) := by decide +kernel
theorem dX2_init_65 : decode cX2_init 65 = .ok (.putfield 31, 3) := by decide +kernel
theorem dX2_init_68 : decode cX2_init 68 = .ok (.iload_n 1, 1) := by decide +kernel
theorem dX2_init_69 : decode cX2_init 69 = .ok (.istore_n 2, 1) := by decide +kernel
theorem dX2_init_70 : decode cX2_init 70 = .ok (.iload_n 2, 1) := by decide +kernel
theorem dX2_init_71 : decode cX2_init 71 = .ok (.iconst 1, 1) := by decide +kernel
theorem dX2_init_72 : decode cX2_init 72 = .ok (.if_icmp .ge 5, 3) := by decide +kernel
theorem dX2_init_75 : decode cX2_init 75 = .ok (.iconst 1, 1) := by decide +kernel
theorem dX2_init_76 : decode cX2_init 76 = .ok (.istore_n 2, 1) := by decide +kernel
theorem dX2_init_77 : decode cX2_init 77 = .ok (.iload_n 2, 1) := by decide +kernel
theorem dX2_init_78 : decode cX2_init 78 = .ok (.bipush 12, 2) := by decide +kernel
theorem dX2_init_80 : decode cX2_init 80 = .ok (.if_icmp .le 6, 3) := by decide +kernel
theorem dX2_init_83 : decode cX2_init 83 = .ok (.bipush 12, 2) := by decide +kernel
theorem dX2_init_85 : decode cX2_init 85 = .ok (.istore_n 2, 1) := by decide +kernel
theorem dX2_init_86 : decode cX2_init 86 = .ok (.aload_n 0, 1) := by decide +kernel
theorem dX2_init_87 : decode cX2_init 87 = .ok (.iload_n 2, 1) := by decide +kernel
theorem dX2_init_88 : decode cX2_init 88 = .ok (.putfield 34, 3) := by decide +kernel
theorem dX2_init_91 : decode cX2_init 91 = .ok (.return_, 1) := by decide +kernel
theorem dX2_row_0 : decode cX2_row 0 = .ok (.aload_n 0, 1) := by decide +kernel
theorem dX2_row_1 : decode cX2_row 1 = .ok (.iload_n 2, 1) := by decide +kernel
theorem dX2_row_2 : decode cX2_row 2 = .ok (.invokevirtual 38, 3) := by decide +kernel
theorem dX2_row_5 : decode cX2_row 5 = .ok (.ifCond .eq 6, 3) := by decide +kernel
theorem dX2_row_8 : decode cX2_row 8 = .ok (.bipush (-2), 2) := by decide +kernel
theorem dX2_row_10 : decode cX2_row 10 = .ok (.ireturn, 1) := by decide +kernel
theorem dX2_row_11 : decode cX2_row 11 = .ok (.aload_n 0, 1) := by decide +kernel
theorem dX2_row_12 : decode cX2_row 12 = .ok (.getfield 42, 3) := by decide +kernel
theorem dX2_row_15 : decode cX2_row 15 = .ok (.bipush 24, 2) := by decide +kernel
theorem dX2_row_17 : decode cX2_row 17 = .ok (.if_icmp .ne 6, 3) := by decide +kernel
theorem dX2_row_20 : decode cX2_row 20 = .ok (.bipush (-3), 2) := by decide +kernel
theorem dX2_row_22 : decode cX2_row 22 = .ok (.ireturn, 1) := by decide +kernel
theorem dX2_row_23 : decode cX2_row 23 = .ok (.aload_n 0, 1) := by decide +kernel
theorem dX2_row_24 : decode cX2_row 24 = .ok (.getfield 7, 3) := by decide +kernel
theorem dX2_row_27 : decode cX2_row 27 = .ok (.aload_n 0, 1) := by decide +kernel
theorem dX2_row_28 : decode cX2_row 28 = .ok (.getfield 42, 3) := by decide +kernel
theorem dX2_row_31 : decode cX2_row 31 = .ok (.iload_n 1, 1) := by decide +kernel
theorem dX2_row_32 : decode cX2_row 32 = .ok (.sipush 511, 3) := by decide +kernel
theorem dX2_row_35 : decode cX2_row 35 = .ok (.iand, 1) := by decide +kernel
theorem dX2_row_36 : decode cX2_row 36 = .ok (.iastore, 1) := by decide +kernel
theorem dX2_row_37 : decode cX2_row 37 = .ok (.aload_n 0, 1) := by decide +kernel
theorem dX2_row_38 : decode cX2_row 38 = .ok (.getfield 13, 3) := by decide +kernel
theorem dX2_row_41 : decode cX2_row 41 = .ok (.aload_n 0, 1) := by decide +kernel
theorem dX2_row_42 : decode cX2_row 42 = .ok (.getfield 42, 3) := by decide +kernel
theorem dX2_row_45 : decode cX2_row 45 = .ok (.iload_n 2, 1) := by decide +kernel
theorem dX2_row_46 : decode cX2_row 46 = .ok (.iastore, 1) := by decide +kernel
theorem dX2_row_47 : decode cX2_row 47 = .ok (.aload_n 0, 1) := by decide +kernel
theorem dX2_row_48 : decode cX2_row 48 = .ok (.aload_n 0, 1) := by decide +kernel
theorem dX2_row_49 : decode cX2_row 49 = .ok (.getfield 42, 3) := by decide +kernel
theorem dX2_row_52 : decode cX2_row 52 = .ok (.iconst 1, 1) := by decide +kernel
theorem dX2_row_53 : decode cX2_row 53 = .ok (.iadd, 1) := by decide +kernel
theorem dX2_row_54 : decode cX2_row 54 = .ok (.putfield 42, 3) := by decide +kernel
theorem dX2_row_57 : decode cX2_row 57 = .ok (.aload_n 0, 1) := by decide +kernel
theorem dX2_row_58 : decode cX2_row 58 = .ok (.getfield 42, 3) := by decide +kernel
theorem dX2_row_61 : decode cX2_row 61 = .ok (.ireturn, 1) := by decide +kernel
theorem dX2_badTarget_0 : decode cX2_badTarget 0 = .ok (.iload_n 1, 1) := by decide +kernel
theorem dX2_badTarget_1 : decode cX2_badTarget 1 = .ok (.bipush (-50), 2) := by decide +kernel
theorem dX2_badTarget_3 : decode cX2_badTarget 3 = .ok (.if_icmp .lt 9, 3) := by decide +kernel
theorem dX2_badTarget_6 : decode cX2_badTarget 6 = .ok (.iload_n 1, 1) := by decide +kernel
theorem dX2_badTarget_7 : decode cX2_badTarget 7 = .ok (.bipush 50, 2) := by decide +kernel
theorem dX2_badTarget_9 : decode cX2_badTarget 9 = .ok (.if_icmp .le 7, 3) := by decide +kernel
theorem dX2_badTarget_12 : decode cX2_badTarget 12 = .ok (.iconst 1, 1) := by decide +kernel
theorem dX2_badTarget_13 : decode cX2_badTarget 13 = .ok (.goto 4, 3) := by decide +kernel
theorem dX2_badTarget_16 : decode cX2_badTarget 16 = .ok (.iconst 0, 1) := by decide +kernel
theorem dX2_badTarget_17 : decode cX2_badTarget 17 = .ok (.ireturn, 1) := by decide +kernel
theorem dX2_retarget_0 : decode cX2_retarget 0 = .ok (.iload_n 1, 1) := by decide +kernel
theorem dX2_retarget_1 : decode cX2_retarget 1 = .ok (.ifCond .lt 11, 3) := by decide +kernel
theorem dX2_retarget_4 : decode cX2_retarget 4 = .ok (.iload_n 1, 1) := by decide +kernel
theorem dX2_retarget_5 : decode cX2_retarget 5 = .ok (.aload_n 0, 1) := by decide +kernel
theorem dX2_retarget_6 : decode cX2_retarget 6 = .ok (.getfield 42, 3) := by decide +kernel
theorem dX2_retarget_9 : decode cX2_retarget 9 = .ok (.if_icmp .lt 6, 3) := by decide +kernel
theorem dX2_retarget_12 : decode cX2_retarget 12 = .ok (.bipush (-5), 2) := by decide +kernel
theorem dX2_retarget_14 : decode cX2_retarget 14 = .ok (.ireturn, 1) := by decide +kernel
theorem dX2_retarget_15 : decode cX2_retarget 15 = .ok (.aload_n 0, 1) := by decide +kernel
theorem dX2_retarget_16 : decode cX2_retarget 16 = .ok (.iload_n 2, 1) := by decide +kernel
theorem dX2_retarget_17 : decode cX2_retarget 17 = .ok (.invokevirtual 38, 3) := by decide +kernel
theorem dX2_retarget_20 : decode cX2_retarget 20 = .ok (.ifCond .eq 6, 3) := by decide +kernel
theorem dX2_retarget_23 : decode cX2_retarget 23 = .ok (.bipush (-2), 2) := by decide +kernel
theorem dX2_retarget_25 : decode cX2_retarget 25 = .ok (.ireturn, 1) := by decide +kernel
theorem dX2_retarget_26 : decode cX2_retarget 26 = .ok (.aload_n 0, 1) := by decide +kernel
theorem dX2_retarget_27 : decode cX2_retarget 27 = .ok (.getfield 13, 3) := by decide +kernel
theorem dX2_retarget_30 : decode cX2_retarget 30 = .ok (.iload_n 1, 1) := by decide +kernel
theorem dX2_retarget_31 : decode cX2_retarget 31 = .ok (.iaload, 1) := by decide +kernel
theorem dX2_retarget_32 : decode cX2_retarget 32 = .ok (.istore_n 3, 1) := by decide +kernel
theorem dX2_retarget_33 : decode cX2_retarget 33 = .ok (.aload_n 0, 1) := by decide +kernel
theorem dX2_retarget_34 : decode cX2_retarget 34 = .ok (.getfield 13, 3) := by decide +kernel
theorem dX2_retarget_37 : decode cX2_retarget 37 = .ok (.iload_n 1, 1) := by decide +kernel
theorem dX2_retarget_38 : decode cX2_retarget 38 = .ok (.iload_n 2, 1) := by decide +kernel
theorem dX2_retarget_39 : decode cX2_retarget 39 = .ok (.iastore, 1) := by decide +kernel
theorem dX2_retarget_40 : decode cX2_retarget 40 = .ok (.iload_n 3, 1) := by decide +kernel
theorem dX2_retarget_41 : decode cX2_retarget 41 = .ok (.ireturn, 1) := by decide +kernel
theorem dX2_train_0 : decode cX2_train 0 = .ok (.aload_n 0, 1) := by decide +kernel
theorem dX2_train_1 : decode cX2_train 1 = .ok (.getfield 61, 3) := by decide +kernel
theorem dX2_train_4 : decode cX2_train 4 = .ok (.iconst 4, 1) := by decide +kernel
theorem dX2_train_5 : decode cX2_train 5 = .ok (.if_icmp .ne 6, 3) := by decide +kernel
theorem dX2_train_8 : decode cX2_train 8 = .ok (.bipush (-3), 2) := by decide +kernel
theorem dX2_train_10 : decode cX2_train 10 = .ok (.ireturn, 1) := by decide +kernel
theorem dX2_train_11 : decode cX2_train 11 = .ok (.iconst 0, 1) := by decide +kernel
theorem dX2_train_12 : decode cX2_train 12 = .ok (.istore_n 1, 1) := by decide +kernel
theorem dX2_train_13 : decode cX2_train 13 = .ok (.iload_n 1, 1) := by decide +kernel
theorem dX2_train_14 : decode cX2_train 14 = .ok (.aload_n 0, 1) := by decide +kernel
theorem dX2_train_15 : decode cX2_train 15 = .ok (.getfield 42, 3) := by decide +kernel
theorem dX2_train_18 : decode cX2_train 18 = .ok (.if_icmp .ge 27, 3) := by decide +kernel
theorem dX2_train_21 : decode cX2_train 21 = .ok (.aload_n 0, 1) := by decide +kernel
theorem dX2_train_22 : decode cX2_train 22 = .ok (.getfield 28, 3) := by decide +kernel
theorem dX2_train_25 : decode cX2_train 25 = .ok (.iload_n 1, 1) := by decide +kernel
theorem dX2_train_26 : decode cX2_train 26 = .ok (.aload_n 0, 1) := by decide +kernel
theorem dX2_train_27 : decode cX2_train 27 = .ok (.iload_n 1, 1) := by decide +kernel
theorem dX2_train_28 : decode cX2_train 28 = .ok (.invokevirtual 64, 3) := by decide +kernel
theorem dX2_train_31 : decode cX2_train 31 = .ok (.iastore, 1) := by decide +kernel
theorem dX2_train_32 : decode cX2_train 32 = .ok (.aload_n 0, 1) := by decide +kernel
theorem dX2_train_33 : decode cX2_train 33 = .ok (.getfield 31, 3) := by decide +kernel
theorem dX2_train_36 : decode cX2_train 36 = .ok (.iload_n 1, 1) := by decide +kernel
theorem dX2_train_37 : decode cX2_train 37 = .ok (.iconst 0, 1) := by decide +kernel
theorem dX2_train_38 : decode cX2_train 38 = .ok (.iastore, 1) := by decide +kernel
theorem dX2_train_39 : decode cX2_train 39 = .ok (.iinc 1 1, 3) := by decide +kernel
theorem dX2_train_42 : decode cX2_train 42 = .ok (.goto (-29), 3) := by decide +kernel
theorem dX2_train_45 : decode cX2_train 45 = .ok (.aload_n 0, 1) := by decide +kernel
theorem dX2_train_46 : decode cX2_train 46 = .ok (.getfield 61, 3) := by decide +kernel
theorem dX2_train_49 : decode cX2_train 49 = .ok (.bipush 7, 2) := by decide +kernel
end
section
set_option maxRecDepth 100000
theorem dX2_train_51 : decode cX2_train 51 = .ok (.imul, 1) := by decide +kernel
theorem dX2_train_52 : decode cX2_train 52 = .ok (.istore_n 1, 1) := by decide +kernel
theorem dX2_train_53 : decode cX2_train 53 = .ok (.iconst 0, 1) := by decide +kernel
theorem dX2_train_54 : decode cX2_train 54 = .ok (.istore_n 2, 1) := by decide +kernel
theorem dX2_train_55 : decode cX2_train 55 = .ok (.iload_n 2, 1) := by decide +kernel
theorem dX2_train_56 : decode cX2_train 56 = .ok (.bipush 7, 2) := by decide +kernel
theorem dX2_train_58 : decode cX2_train 58 = .ok (.if_icmp .ge 37, 3) := by decide +kernel
theorem dX2_train_61 : decode cX2_train 61 = .ok (.aload_n 0, 1) := by decide +kernel
theorem dX2_train_62 : decode cX2_train 62 = .ok (.getfield 16, 3) := by decide +kernel
theorem dX2_train_65 : decode cX2_train 65 = .ok (.iload_n 1, 1) := by decide +kernel
theorem dX2_train_66 : decode cX2_train 66 = .ok (.iload_n 2, 1) := by decide +kernel
theorem dX2_train_67 : decode cX2_train 67 = .ok (.iadd, 1) := by decide +kernel
theorem dX2_train_68 : decode cX2_train 68 = .ok (.bipush (-7), 2) := by decide +kernel
theorem dX2_train_70 : decode cX2_train 70 = .ok (.iastore, 1) := by decide +kernel
theorem dX2_train_71 : decode cX2_train 71 = .ok (.aload_n 0, 1) := by decide +kernel
theorem dX2_train_72 : decode cX2_train 72 = .ok (.getfield 25, 3) := by decide +kernel
theorem dX2_train_75 : decode cX2_train 75 = .ok (.iload_n 1, 1) := by decide +kernel
theorem dX2_train_76 : decode cX2_train 76 = .ok (.iload_n 2, 1) := by decide +kernel
theorem dX2_train_77 : decode cX2_train 77 = .ok (.iadd, 1) := by decide +kernel
theorem dX2_train_78 : decode cX2_train 78 = .ok (.iconst 0, 1) := by decide +kernel
theorem dX2_train_79 : decode cX2_train 79 = .ok (.iastore, 1) := by decide +kernel
theorem dX2_train_80 : decode cX2_train 80 = .ok (.aload_n 0, 1) := by decide +kernel
theorem dX2_train_81 : decode cX2_train 81 = .ok (.getfield 22, 3) := by decide +kernel
theorem dX2_train_84 : decode cX2_train 84 = .ok (.iload_n 1, 1) := by decide +kernel
theorem dX2_train_85 : decode cX2_train 85 = .ok (.iload_n 2, 1) := by decide +kernel
theorem dX2_train_86 : decode cX2_train 86 = .ok (.iadd, 1) := by decide +kernel
theorem dX2_train_87 : decode cX2_train 87 = .ok (.iconst 0, 1) := by decide +kernel
theorem dX2_train_88 : decode cX2_train 88 = .ok (.iastore, 1) := by decide +kernel
theorem dX2_train_89 : decode cX2_train 89 = .ok (.iinc 2 1, 3) := by decide +kernel
theorem dX2_train_92 : decode cX2_train 92 = .ok (.goto (-37), 3) := by decide +kernel
theorem dX2_train_95 : decode cX2_train 95 = .ok (.aload_n 0, 1) := by decide +kernel
theorem dX2_train_96 : decode cX2_train 96 = .ok (.getfield 16, 3) := by decide +kernel
theorem dX2_train_99 : decode cX2_train 99 = .ok (.iload_n 1, 1) := by decide +kernel
theorem dX2_train_100 : decode cX2_train 100 = .ok (.bipush (-6), 2) := by decide +kernel
theorem dX2_train_102 : decode cX2_train 102 = .ok (.iastore, 1) := by decide +kernel
theorem dX2_train_103 : decode cX2_train 103 = .ok (.iconst 0, 1) := by decide +kernel
theorem dX2_train_104 : decode cX2_train 104 = .ok (.istore_n 2, 1) := by decide +kernel
theorem dX2_train_105 : decode cX2_train 105 = .ok (.iconst 0, 1) := by decide +kernel
theorem dX2_train_106 : decode cX2_train 106 = .ok (.istore_n 3, 1) := by decide +kernel
theorem dX2_train_107 : decode cX2_train 107 = .ok (.iload_n 3, 1) := by decide +kernel
theorem dX2_train_108 : decode cX2_train 108 = .ok (.bipush 7, 2) := by decide +kernel
theorem dX2_train_110 : decode cX2_train 110 = .ok (.if_icmp .ge 47, 3) := by decide +kernel
theorem dX2_train_113 : decode cX2_train 113 = .ok (.aload_n 0, 1) := by decide +kernel
theorem dX2_train_114 : decode cX2_train 114 = .ok (.getfield 16, 3) := by decide +kernel
theorem dX2_train_117 : decode cX2_train 117 = .ok (.iload_n 1, 1) := by decide +kernel
theorem dX2_train_118 : decode cX2_train 118 = .ok (.iload_n 3, 1) := by decide +kernel
theorem dX2_train_119 : decode cX2_train 119 = .ok (.iadd, 1) := by decide +kernel
theorem dX2_train_120 : decode cX2_train 120 = .ok (.iaload, 1) := by decide +kernel
theorem dX2_train_121 : decode cX2_train 121 = .ok (.bipush (-6), 2) := by decide +kernel
theorem dX2_train_123 : decode cX2_train 123 = .ok (.if_icmp .ne 28, 3) := by decide +kernel
theorem dX2_train_126 : decode cX2_train 126 = .ok (.aload_n 0, 1) := by decide +kernel
theorem dX2_train_127 : decode cX2_train 127 = .ok (.aload_n 0, 1) := by decide +kernel
theorem dX2_train_128 : decode cX2_train 128 = .ok (.getfield 61, 3) := by decide +kernel
theorem dX2_train_131 : decode cX2_train 131 = .ok (.iload_n 3, 1) := by decide +kernel
theorem dX2_train_132 : decode cX2_train 132 = .ok (.invokevirtual 68, 3) := by decide +kernel
theorem dX2_train_135 : decode cX2_train 135 = .ok (.aload_n 0, 1) := by decide +kernel
theorem dX2_train_136 : decode cX2_train 136 = .ok (.getfield 16, 3) := by decide +kernel
theorem dX2_train_139 : decode cX2_train 139 = .ok (.iload_n 1, 1) := by decide +kernel
theorem dX2_train_140 : decode cX2_train 140 = .ok (.iload_n 3, 1) := by decide +kernel
theorem dX2_train_141 : decode cX2_train 141 = .ok (.iadd, 1) := by decide +kernel
theorem dX2_train_142 : decode cX2_train 142 = .ok (.iaload, 1) := by decide +kernel
theorem dX2_train_143 : decode cX2_train 143 = .ok (.bipush (-6), 2) := by decide +kernel
theorem dX2_train_145 : decode cX2_train 145 = .ok (.if_icmp .ne 6, 3) := by decide +kernel
theorem dX2_train_148 : decode cX2_train 148 = .ok (.iinc 2 1, 3) := by decide +kernel
theorem dX2_train_151 : decode cX2_train 151 = .ok (.iinc 3 1, 3) := by decide +kernel
theorem dX2_train_154 : decode cX2_train 154 = .ok (.goto (-47), 3) := by decide +kernel
theorem dX2_train_157 : decode cX2_train 157 = .ok (.aload_n 0, 1) := by decide +kernel
theorem dX2_train_158 : decode cX2_train 158 = .ok (.aload_n 0, 1) := by decide +kernel
theorem dX2_train_159 : decode cX2_train 159 = .ok (.getfield 61, 3) := by decide +kernel
theorem dX2_train_162 : decode cX2_train 162 = .ok (.iconst 1, 1) := by decide +kernel
theorem dX2_train_163 : decode cX2_train 163 = .ok (.iadd, 1) := by decide +kernel
theorem dX2_train_164 : decode cX2_train 164 = .ok (.putfield 61, 3) := by decide +kernel
theorem dX2_train_167 : decode cX2_train 167 = .ok (.iload_n 2, 1) := by decide +kernel
theorem dX2_train_168 : decode cX2_train 168 = .ok (.ireturn, 1) := by decide +kernel
theorem dX2_rest_0 : decode cX2_rest 0 = .ok (.iload_n 1, 1) := by decide +kernel
theorem dX2_rest_1 : decode cX2_rest 1 = .ok (.ifCond .lt 11, 3) := by decide +kernel
theorem dX2_rest_4 : decode cX2_rest 4 = .ok (.iload_n 1, 1) := by decide +kernel
theorem dX2_rest_5 : decode cX2_rest 5 = .ok (.aload_n 0, 1) := by decide +kernel
theorem dX2_rest_6 : decode cX2_rest 6 = .ok (.getfield 42, 3) := by decide +kernel
theorem dX2_rest_9 : decode cX2_rest 9 = .ok (.if_icmp .lt 5, 3) := by decide +kernel
theorem dX2_rest_12 : decode cX2_rest 12 = .ok (.iconst 0, 1) := by decide +kernel
theorem dX2_rest_13 : decode cX2_rest 13 = .ok (.ireturn, 1) := by decide +kernel
theorem dX2_rest_14 : decode cX2_rest 14 = .ok (.aload_n 0, 1) := by decide +kernel
theorem dX2_rest_15 : decode cX2_rest 15 = .ok (.getfield 13, 3) := by decide +kernel
theorem dX2_rest_18 : decode cX2_rest 18 = .ok (.iload_n 1, 1) := by decide +kernel
theorem dX2_rest_19 : decode cX2_rest 19 = .ok (.iaload, 1) := by decide +kernel
theorem dX2_rest_20 : decode cX2_rest 20 = .ok (.aload_n 0, 1) := by decide +kernel
theorem dX2_rest_21 : decode cX2_rest 21 = .ok (.aload_n 0, 1) := by decide +kernel
theorem dX2_rest_22 : decode cX2_rest 22 = .ok (.getfield 7, 3) := by decide +kernel
theorem dX2_rest_25 : decode cX2_rest 25 = .ok (.iload_n 1, 1) := by decide +kernel
theorem dX2_rest_26 : decode cX2_rest 26 = .ok (.iaload, 1) := by decide +kernel
theorem dX2_rest_27 : decode cX2_rest 27 = .ok (.invokevirtual 77, 3) := by decide +kernel
theorem dX2_rest_30 : decode cX2_rest 30 = .ok (.isub, 1) := by decide +kernel
theorem dX2_rest_31 : decode cX2_rest 31 = .ok (.ireturn, 1) := by decide +kernel
theorem dX2_predict_0 : decode cX2_predict 0 = .ok (.iconst 0, 1) := by decide +kernel
theorem dX2_predict_1 : decode cX2_predict 1 = .ok (.istore_n 2, 1) := by decide +kernel
theorem dX2_predict_2 : decode cX2_predict 2 = .ok (.iconst 0, 1) := by decide +kernel
theorem dX2_predict_3 : decode cX2_predict 3 = .ok (.istore_n 3, 1) := by decide +kernel
theorem dX2_predict_4 : decode cX2_predict 4 = .ok (.iload_n 3, 1) := by decide +kernel
theorem dX2_predict_5 : decode cX2_predict 5 = .ok (.aload_n 0, 1) := by decide +kernel
theorem dX2_predict_6 : decode cX2_predict 6 = .ok (.getfield 61, 3) := by decide +kernel
theorem dX2_predict_9 : decode cX2_predict 9 = .ok (.if_icmp .ge 22, 3) := by decide +kernel
theorem dX2_predict_12 : decode cX2_predict 12 = .ok (.aload_n 0, 1) := by decide +kernel
theorem dX2_predict_13 : decode cX2_predict 13 = .ok (.iload_n 3, 1) := by decide +kernel
theorem dX2_predict_14 : decode cX2_predict 14 = .ok (.iload_n 1, 1) := by decide +kernel
theorem dX2_predict_15 : decode cX2_predict 15 = .ok (.invokevirtual 74, 3) := by decide +kernel
theorem dX2_predict_18 : decode cX2_predict 18 = .ok (.istore 4, 2) := by decide +kernel
theorem dX2_predict_20 : decode cX2_predict 20 = .ok (.iload_n 2, 1) := by decide +kernel
theorem dX2_predict_21 : decode cX2_predict 21 = .ok (.iload 4, 2) := by decide +kernel
theorem dX2_predict_23 : decode cX2_predict 23 = .ok (.iadd, 1) := by decide +kernel
theorem dX2_predict_24 : decode cX2_predict 24 = .ok (.istore_n 2, 1) := by decide +kernel
theorem dX2_predict_25 : decode cX2_predict 25 = .ok (.iinc 3 1, 3) := by decide +kernel
theorem dX2_predict_28 : decode cX2_predict 28 = .ok (.goto (-24), 3) := by decide +kernel
theorem dX2_predict_31 : decode cX2_predict 31 = .ok (.iload_n 2, 1) := by decide +kernel
theorem dX2_predict_32 : decode cX2_predict 32 = .ok (.ireturn, 1) := by decide +kernel
theorem dX2_leafValue_0 : decode cX2_leafValue 0 = .ok (.iconst 0, 1) := by decide +kernel
theorem dX2_leafValue_1 : decode cX2_leafValue 1 = .ok (.istore_n 3, 1) := by decide +kernel
theorem dX2_leafValue_2 : decode cX2_leafValue 2 = .ok (.iconst 0, 1) := by decide +kernel
theorem dX2_leafValue_3 : decode cX2_leafValue 3 = .ok (.istore 4, 2) := by decide +kernel
theorem dX2_leafValue_5 : decode cX2_leafValue 5 = .ok (.iload 4, 2) := by decide +kernel
theorem dX2_leafValue_7 : decode cX2_leafValue 7 = .ok (.iconst 2, 1) := by decide +kernel
theorem dX2_leafValue_8 : decode cX2_leafValue 8 = .ok (.if_icmp .ge 68, 3) := by decide +kernel
theorem dX2_leafValue_11 : decode cX2_leafValue 11 = .ok (.iload_n 1, 1) := by decide +kernel
theorem dX2_leafValue_12 : decode cX2_leafValue 12 = .ok (.bipush 7, 2) := by decide +kernel
theorem dX2_leafValue_14 : decode cX2_leafValue 14 = .ok (.imul, 1) := by decide +kernel
theorem dX2_leafValue_15 : decode cX2_leafValue 15 = .ok (.iload_n 3, 1) := by decide +kernel
theorem dX2_leafValue_16 : decode cX2_leafValue 16 = .ok (.iadd, 1) := by decide +kernel
theorem dX2_leafValue_17 : decode cX2_leafValue 17 = .ok (.istore 5, 2) := by decide +kernel
theorem dX2_leafValue_19 : decode cX2_leafValue 19 = .ok (.iload_n 3, 1) := by decide +kernel
theorem dX2_leafValue_20 : decode cX2_leafValue 20 = .ok (.iconst 3, 1) := by decide +kernel
theorem dX2_leafValue_21 : decode cX2_leafValue 21 = .ok (.if_icmp .ge 49, 3) := by decide +kernel
theorem dX2_leafValue_24 : decode cX2_leafValue 24 = .ok (.aload_n 0, 1) := by decide +kernel
theorem dX2_leafValue_25 : decode cX2_leafValue 25 = .ok (.getfield 16, 3) := by decide +kernel
theorem dX2_leafValue_28 : decode cX2_leafValue 28 = .ok (.iload 5, 2) := by decide +kernel
theorem dX2_leafValue_30 : decode cX2_leafValue 30 = .ok (.iaload, 1) := by decide +kernel
theorem dX2_leafValue_31 : decode cX2_leafValue 31 = .ok (.ifCond .lt 39, 3) := by decide +kernel
theorem dX2_leafValue_34 : decode cX2_leafValue 34 = .ok (.aload_n 0, 1) := by decide +kernel
theorem dX2_leafValue_35 : decode cX2_leafValue 35 = .ok (.iload_n 2, 1) := by decide +kernel
theorem dX2_leafValue_36 : decode cX2_leafValue 36 = .ok (.aload_n 0, 1) := by decide +kernel
theorem dX2_leafValue_37 : decode cX2_leafValue 37 = .ok (.getfield 16, 3) := by decide +kernel
theorem dX2_leafValue_40 : decode cX2_leafValue 40 = .ok (.iload 5, 2) := by decide +kernel
theorem dX2_leafValue_42 : decode cX2_leafValue 42 = .ok (.iaload, 1) := by decide +kernel
theorem dX2_leafValue_43 : decode cX2_leafValue 43 = .ok (.invokevirtual 45, 3) := by decide +kernel
theorem dX2_leafValue_46 : decode cX2_leafValue 46 = .ok (.aload_n 0, 1) := by decide +kernel
theorem dX2_leafValue_47 : decode cX2_leafValue 47 = .ok (.getfield 19, 3) := by decide +kernel
theorem dX2_leafValue_50 : decode cX2_leafValue 50 = .ok (.iload 5, 2) := by decide +kernel
theorem dX2_leafValue_52 : decode cX2_leafValue 52 = .ok (.iaload, 1) := by decide +kernel
theorem dX2_leafValue_53 : decode cX2_leafValue 53 = .ok (.if_icmp .gt 11, 3) := by decide +kernel
theorem dX2_leafValue_56 : decode cX2_leafValue 56 = .ok (.iconst 2, 1) := by decide +kernel
theorem dX2_leafValue_57 : decode cX2_leafValue 57 = .ok (.iload_n 3, 1) := by decide +kernel
theorem dX2_leafValue_58 : decode cX2_leafValue 58 = .ok (.imul, 1) := by decide +kernel
theorem dX2_leafValue_59 : decode cX2_leafValue 59 = .ok (.iconst 1, 1) := by decide +kernel
theorem dX2_leafValue_60 : decode cX2_leafValue 60 = .ok (.iadd, 1) := by decide +kernel
theorem dX2_leafValue_61 : decode cX2_leafValue 61 = .ok (.goto 8, 3) := by decide +kernel
theorem dX2_leafValue_64 : decode cX2_leafValue 64 = .ok (.iconst 2, 1) := by decide +kernel
theorem dX2_leafValue_65 : decode cX2_leafValue 65 = .ok (.iload_n 3, 1) := by decide +kernel
theorem dX2_leafValue_66 : decode cX2_leafValue 66 = .ok (.imul, 1) := by decide +kernel
theorem dX2_leafValue_67 : decode cX2_leafValue 67 = .ok (.iconst 2, 1) := by decide +kernel
theorem dX2_leafValue_68 : decode cX2_leafValue 68 = .ok (.iadd, 1) := by decide +kernel
theorem dX2_leafValue_69 : decode cX2_leafValue 69 = .ok (.istore_n 3, 1) := by decide +kernel
theorem dX2_leafValue_70 : decode cX2_leafValue 70 = .ok (.iinc 4 1, 3) := by decide +kernel
theorem dX2_leafValue_73 : decode cX2_leafValue 73 = .ok (.goto (-68), 3) := by decide +kernel
theorem dX2_leafValue_76 : decode cX2_leafValue 76 = .ok (.aload_n 0, 1) := by decide +kernel
theorem dX2_leafValue_77 : decode cX2_leafValue 77 = .ok (.getfield 22, 3) := by decide +kernel
theorem dX2_leafValue_80 : decode cX2_leafValue 80 = .ok (.iload_n 1, 1) := by decide +kernel
theorem dX2_leafValue_81 : decode cX2_leafValue 81 = .ok (.bipush 7, 2) := by decide +kernel
theorem dX2_leafValue_83 : decode cX2_leafValue 83 = .ok (.imul, 1) := by decide +kernel
theorem dX2_leafValue_84 : decode cX2_leafValue 84 = .ok (.iload_n 3, 1) := by decide +kernel
theorem dX2_leafValue_85 : decode cX2_leafValue 85 = .ok (.iadd, 1) := by decide +kernel
theorem dX2_leafValue_86 : decode cX2_leafValue 86 = .ok (.iaload, 1) := by decide +kernel
theorem dX2_leafValue_87 : decode cX2_leafValue 87 = .ok (.ireturn, 1) := by decide +kernel
theorem dX2_cell_0 : decode cX2_cell 0 = .ok (.iload_n 1, 1) := by decide +kernel
theorem dX2_cell_1 : decode cX2_cell 1 = .ok (.iconst 3, 1) := by decide +kernel
theorem dX2_cell_2 : decode cX2_cell 2 = .ok (.iload_n 2, 1) := by decide +kernel
theorem dX2_cell_3 : decode cX2_cell 3 = .ok (.imul, 1) := by decide +kernel
theorem dX2_cell_4 : decode cX2_cell 4 = .ok (.ishr, 1) := by decide +kernel
theorem dX2_cell_5 : decode cX2_cell 5 = .ok (.bipush 7, 2) := by decide +kernel
theorem dX2_cell_7 : decode cX2_cell 7 = .ok (.iand, 1) := by decide +kernel
theorem dX2_cell_8 : decode cX2_cell 8 = .ok (.ireturn, 1) := by decide +kernel
theorem dX2_settle_0 : decode cX2_settle 0 = .ok (.iload_n 1, 1) := by decide +kernel
theorem dX2_settle_1 : decode cX2_settle 1 = .ok (.bipush 7, 2) := by decide +kernel
theorem dX2_settle_3 : decode cX2_settle 3 = .ok (.imul, 1) := by decide +kernel
theorem dX2_settle_4 : decode cX2_settle 4 = .ok (.iload_n 2, 1) := by decide +kernel
theorem dX2_settle_5 : decode cX2_settle 5 = .ok (.iadd, 1) := by decide +kernel
theorem dX2_settle_6 : decode cX2_settle 6 = .ok (.istore_n 3, 1) := by decide +kernel
theorem dX2_settle_7 : decode cX2_settle 7 = .ok (.aload_n 0, 1) := by decide +kernel
theorem dX2_settle_8 : decode cX2_settle 8 = .ok (.iload_n 2, 1) := by decide +kernel
theorem dX2_settle_9 : decode cX2_settle 9 = .ok (.iconst 0, 1) := by decide +kernel
theorem dX2_settle_10 : decode cX2_settle 10 = .ok (.bipush 7, 2) := by decide +kernel
theorem dX2_settle_12 : decode cX2_settle 12 = .ok (.invokevirtual 49, 3) := by decide +kernel
theorem dX2_settle_15 : decode cX2_settle 15 = .ok (.istore 4, 2) := by decide +kernel
theorem dX2_settle_17 : decode cX2_settle 17 = .ok (.aload_n 0, 1) := by decide +kernel
theorem dX2_settle_18 : decode cX2_settle 18 = .ok (.iload_n 2, 1) := by decide +kernel
theorem dX2_settle_19 : decode cX2_settle 19 = .ok (.iconst 0, 1) := by decide +kernel
theorem dX2_settle_20 : decode cX2_settle 20 = .ok (.bipush 7, 2) := by decide +kernel
theorem dX2_settle_22 : decode cX2_settle 22 = .ok (.invokevirtual 53, 3) := by decide +kernel
theorem dX2_settle_25 : decode cX2_settle 25 = .ok (.l2i, 1) := by decide +kernel
theorem dX2_settle_26 : decode cX2_settle 26 = .ok (.istore 5, 2) := by decide +kernel
theorem dX2_settle_28 : decode cX2_settle 28 = .ok (.aload_n 0, 1) := by decide +kernel
theorem dX2_settle_29 : decode cX2_settle 29 = .ok (.getfield 25, 3) := by decide +kernel
theorem dX2_settle_32 : decode cX2_settle 32 = .ok (.iload_n 3, 1) := by decide +kernel
theorem dX2_settle_33 : decode cX2_settle 33 = .ok (.iload 4, 2) := by decide +kernel
theorem dX2_settle_35 : decode cX2_settle 35 = .ok (.iastore, 1) := by decide +kernel
theorem dX2_settle_36 : decode cX2_settle 36 = .ok (.iload_n 2, 1) := by decide +kernel
theorem dX2_settle_37 : decode cX2_settle 37 = .ok (.iconst 3, 1) := by decide +kernel
theorem dX2_settle_38 : decode cX2_settle 38 = .ok (.if_icmp .ge 14, 3) := by decide +kernel
theorem dX2_settle_41 : decode cX2_settle 41 = .ok (.iload 4, 2) := by decide +kernel
theorem dX2_settle_43 : decode cX2_settle 43 = .ok (.ifCond .le 9, 3) := by decide +kernel
theorem dX2_settle_46 : decode cX2_settle 46 = .ok (.aload_n 0, 1) := by decide +kernel
theorem dX2_settle_47 : decode cX2_settle 47 = .ok (.iload_n 1, 1) := by decide +kernel
theorem dX2_settle_48 : decode cX2_settle 48 = .ok (.iload_n 2, 1) := by decide +kernel
theorem dX2_settle_49 : decode cX2_settle 49 = .ok (.invokevirtual 71, 3) := by decide +kernel
theorem dX2_settle_52 : decode cX2_settle 52 = .ok (.aload_n 0, 1) := by decide +kernel
theorem dX2_settle_53 : decode cX2_settle 53 = .ok (.getfield 16, 3) := by decide +kernel
theorem dX2_settle_56 : decode cX2_settle 56 = .ok (.iload_n 3, 1) := by decide +kernel
theorem dX2_settle_57 : decode cX2_settle 57 = .ok (.iaload, 1) := by decide +kernel
theorem dX2_settle_58 : decode cX2_settle 58 = .ok (.bipush (-6), 2) := by decide +kernel
theorem dX2_settle_60 : decode cX2_settle 60 = .ok (.if_icmp .ne 19, 3) := by decide +kernel
theorem dX2_settle_63 : decode cX2_settle 63 = .ok (.iload 4, 2) := by decide +kernel
theorem dX2_settle_65 : decode cX2_settle 65 = .ok (.ifCond .le 14, 3) := by decide +kernel
theorem dX2_settle_68 : decode cX2_settle 68 = .ok (.aload_n 0, 1) := by decide +kernel
theorem dX2_settle_69 : decode cX2_settle 69 = .ok (.getfield 22, 3) := by decide +kernel
theorem dX2_settle_72 : decode cX2_settle 72 = .ok (.iload_n 3, 1) := by decide +kernel
theorem dX2_settle_73 : decode cX2_settle 73 = .ok (.iload 5, 2) := by decide +kernel
theorem dX2_settle_75 : decode cX2_settle 75 = .ok (.iload 4, 2) := by decide +kernel
theorem dX2_settle_77 : decode cX2_settle 77 = .ok (.idiv, 1) := by decide +kernel
theorem dX2_settle_78 : decode cX2_settle 78 = .ok (.iastore, 1) := by decide +kernel
theorem dX2_settle_79 : decode cX2_settle 79 = .ok (.return_, 1) := by decide +kernel
theorem dX2_rowsOf_0 : decode cX2_rowsOf 0 = .ok (.iconst 0, 1) := by decide +kernel
theorem dX2_rowsOf_1 : decode cX2_rowsOf 1 = .ok (.istore 4, 2) := by decide +kernel
theorem dX2_rowsOf_3 : decode cX2_rowsOf 3 = .ok (.iconst 0, 1) := by decide +kernel
theorem dX2_rowsOf_4 : decode cX2_rowsOf 4 = .ok (.istore 5, 2) := by decide +kernel
theorem dX2_rowsOf_6 : decode cX2_rowsOf 6 = .ok (.iload 5, 2) := by decide +kernel
theorem dX2_rowsOf_8 : decode cX2_rowsOf 8 = .ok (.aload_n 0, 1) := by decide +kernel
theorem dX2_rowsOf_9 : decode cX2_rowsOf 9 = .ok (.getfield 42, 3) := by decide +kernel
theorem dX2_rowsOf_12 : decode cX2_rowsOf 12 = .ok (.if_icmp .ge 39, 3) := by decide +kernel
theorem dX2_rowsOf_15 : decode cX2_rowsOf 15 = .ok (.aload_n 0, 1) := by decide +kernel
theorem dX2_rowsOf_16 : decode cX2_rowsOf 16 = .ok (.getfield 31, 3) := by decide +kernel
theorem dX2_rowsOf_19 : decode cX2_rowsOf 19 = .ok (.iload 5, 2) := by decide +kernel
theorem dX2_rowsOf_21 : decode cX2_rowsOf 21 = .ok (.iaload, 1) := by decide +kernel
theorem dX2_rowsOf_22 : decode cX2_rowsOf 22 = .ok (.iload_n 1, 1) := by decide +kernel
theorem dX2_rowsOf_23 : decode cX2_rowsOf 23 = .ok (.if_icmp .ne 22, 3) := by decide +kernel
theorem dX2_rowsOf_26 : decode cX2_rowsOf 26 = .ok (.aload_n 0, 1) := by decide +kernel
theorem dX2_rowsOf_27 : decode cX2_rowsOf 27 = .ok (.aload_n 0, 1) := by decide +kernel
theorem dX2_rowsOf_28 : decode cX2_rowsOf 28 = .ok (.getfield 7, 3) := by decide +kernel
theorem dX2_rowsOf_31 : decode cX2_rowsOf 31 = .ok (.iload 5, 2) := by decide +kernel
theorem dX2_rowsOf_33 : decode cX2_rowsOf 33 = .ok (.iaload, 1) := by decide +kernel
theorem dX2_rowsOf_34 : decode cX2_rowsOf 34 = .ok (.iload_n 2, 1) := by decide +kernel
theorem dX2_rowsOf_35 : decode cX2_rowsOf 35 = .ok (.invokevirtual 45, 3) := by decide +kernel
theorem dX2_rowsOf_38 : decode cX2_rowsOf 38 = .ok (.iload_n 3, 1) := by decide +kernel
theorem dX2_rowsOf_39 : decode cX2_rowsOf 39 = .ok (.if_icmp .gt 6, 3) := by decide +kernel
theorem dX2_rowsOf_42 : decode cX2_rowsOf 42 = .ok (.iinc 4 1, 3) := by decide +kernel
theorem dX2_rowsOf_45 : decode cX2_rowsOf 45 = .ok (.iinc 5 1, 3) := by decide +kernel
theorem dX2_rowsOf_48 : decode cX2_rowsOf 48 = .ok (.goto (-42), 3) := by decide +kernel
theorem dX2_rowsOf_51 : decode cX2_rowsOf 51 = .ok (.iload 4, 2) := by decide +kernel
theorem dX2_rowsOf_53 : decode cX2_rowsOf 53 = .ok (.ireturn, 1) := by decide +kernel
theorem dX2_sumOf_0 : decode cX2_sumOf 0 = .ok (.lconst 0, 1) := by decide +kernel
theorem dX2_sumOf_1 : decode cX2_sumOf 1 = .ok (.lstore 4, 2) := by decide +kernel
theorem dX2_sumOf_3 : decode cX2_sumOf 3 = .ok (.iconst 0, 1) := by decide +kernel
theorem dX2_sumOf_4 : decode cX2_sumOf 4 = .ok (.istore 6, 2) := by decide +kernel
theorem dX2_sumOf_6 : decode cX2_sumOf 6 = .ok (.iload 6, 2) := by decide +kernel
theorem dX2_sumOf_8 : decode cX2_sumOf 8 = .ok (.aload_n 0, 1) := by decide +kernel
theorem dX2_sumOf_9 : decode cX2_sumOf 9 = .ok (.getfield 42, 3) := by decide +kernel
theorem dX2_sumOf_12 : decode cX2_sumOf 12 = .ok (.if_icmp .ge 49, 3) := by decide +kernel
theorem dX2_sumOf_15 : decode cX2_sumOf 15 = .ok (.aload_n 0, 1) := by decide +kernel
theorem dX2_sumOf_16 : decode cX2_sumOf 16 = .ok (.getfield 31, 3) := by decide +kernel
theorem dX2_sumOf_19 : decode cX2_sumOf 19 = .ok (.iload 6, 2) := by decide +kernel
theorem dX2_sumOf_21 : decode cX2_sumOf 21 = .ok (.iaload, 1) := by decide +kernel
theorem dX2_sumOf_22 : decode cX2_sumOf 22 = .ok (.iload_n 1, 1) := by decide +kernel
theorem dX2_sumOf_23 : decode cX2_sumOf 23 = .ok (.if_icmp .ne 32, 3) := by decide +kernel
theorem dX2_sumOf_26 : decode cX2_sumOf 26 = .ok (.aload_n 0, 1) := by decide +kernel
theorem dX2_sumOf_27 : decode cX2_sumOf 27 = .ok (.aload_n 0, 1) := by decide +kernel
theorem dX2_sumOf_28 : decode cX2_sumOf 28 = .ok (.getfield 7, 3) := by decide +kernel
theorem dX2_sumOf_31 : decode cX2_sumOf 31 = .ok (.iload 6, 2) := by decide +kernel
theorem dX2_sumOf_33 : decode cX2_sumOf 33 = .ok (.iaload, 1) := by decide +kernel
theorem dX2_sumOf_34 : decode cX2_sumOf 34 = .ok (.iload_n 2, 1) := by decide +kernel
theorem dX2_sumOf_35 : decode cX2_sumOf 35 = .ok (.invokevirtual 45, 3) := by decide +kernel
theorem dX2_sumOf_38 : decode cX2_sumOf 38 = .ok (.iload_n 3, 1) := by decide +kernel
theorem dX2_sumOf_39 : decode cX2_sumOf 39 = .ok (.if_icmp .gt 16, 3) := by decide +kernel
theorem dX2_sumOf_42 : decode cX2_sumOf 42 = .ok (.lload 4, 2) := by decide +kernel
theorem dX2_sumOf_44 : decode cX2_sumOf 44 = .ok (.aload_n 0, 1) := by decide +kernel
theorem dX2_sumOf_45 : decode cX2_sumOf 45 = .ok (.getfield 28, 3) := by decide +kernel
theorem dX2_sumOf_48 : decode cX2_sumOf 48 = .ok (.iload 6, 2) := by decide +kernel
theorem dX2_sumOf_50 : decode cX2_sumOf 50 = .ok (.iaload, 1) := by decide +kernel
theorem dX2_sumOf_51 : decode cX2_sumOf 51 = .ok (.i2l, 1) := by decide +kernel
theorem dX2_sumOf_52 : decode cX2_sumOf 52 = .ok (.ladd, 1) := by decide +kernel
theorem dX2_sumOf_53 : decode cX2_sumOf 53 = .ok (.lstore 4, 2) := by decide +kernel
theorem dX2_sumOf_55 : decode cX2_sumOf 55 = .ok (.iinc 6 1, 3) := by decide +kernel
theorem dX2_sumOf_58 : decode cX2_sumOf 58 = .ok (.goto (-52), 3) := by decide +kernel
theorem dX2_sumOf_61 : decode cX2_sumOf 61 = .ok (.lload 4, 2) := by decide +kernel
theorem dX2_sumOf_63 : decode cX2_sumOf 63 = .ok (.lreturn, 1) := by decide +kernel
theorem dX2_split_0 : decode cX2_split 0 = .ok (.aload_n 0, 1) := by decide +kernel
theorem dX2_split_1 : decode cX2_split 1 = .ok (.iload_n 2, 1) := by decide +kernel
theorem dX2_split_2 : decode cX2_split 2 = .ok (.iconst 0, 1) := by decide +kernel
theorem dX2_split_3 : decode cX2_split 3 = .ok (.bipush 7, 2) := by decide +kernel
theorem dX2_split_5 : decode cX2_split 5 = .ok (.invokevirtual 49, 3) := by decide +kernel
theorem dX2_split_8 : decode cX2_split 8 = .ok (.i2l, 1) := by decide +kernel
theorem dX2_split_9 : decode cX2_split 9 = .ok (.lstore_n 3, 1) := by decide +kernel
theorem dX2_split_10 : decode cX2_split 10 = .ok (.aload_n 0, 1) := by decide +kernel
theorem dX2_split_11 : decode cX2_split 11 = .ok (.iload_n 2, 1) := by decide +kernel
theorem dX2_split_12 : decode cX2_split 12 = .ok (.iconst 0, 1) := by decide +kernel
theorem dX2_split_13 : decode cX2_split 13 = .ok (.bipush 7, 2) := by decide +kernel
theorem dX2_split_15 : decode cX2_split 15 = .ok (.invokevirtual 53, 3) := by decide +kernel
theorem dX2_split_18 : decode cX2_split 18 = .ok (.lstore 5, 2) := by decide +kernel
theorem dX2_split_20 : decode cX2_split 20 = .ok (.lload 5, 2) := by decide +kernel
theorem dX2_split_22 : decode cX2_split 22 = .ok (.lload 5, 2) := by decide +kernel
theorem dX2_split_24 : decode cX2_split 24 = .ok (.lmul, 1) := by decide +kernel
theorem dX2_split_25 : decode cX2_split 25 = .ok (.lstore 7, 2) := by decide +kernel
theorem dX2_split_27 : decode cX2_split 27 = .ok (.lload_n 3, 1) := by decide +kernel
theorem dX2_split_28 : decode cX2_split 28 = .ok (.lstore 9, 2) := by decide +kernel
end
section
set_option maxRecDepth 100000
theorem dX2_split_30 : decode cX2_split 30 = .ok (.iload_n 1, 1) := by decide +kernel
theorem dX2_split_31 : decode cX2_split 31 = .ok (.bipush 7, 2) := by decide +kernel
theorem dX2_split_33 : decode cX2_split 33 = .ok (.imul, 1) := by decide +kernel
theorem dX2_split_34 : decode cX2_split 34 = .ok (.iload_n 2, 1) := by decide +kernel
theorem dX2_split_35 : decode cX2_split 35 = .ok (.iadd, 1) := by decide +kernel
theorem dX2_split_36 : decode cX2_split 36 = .ok (.istore 11, 2) := by decide +kernel
theorem dX2_split_38 : decode cX2_split 38 = .ok (.iconst 0, 1) := by decide +kernel
theorem dX2_split_39 : decode cX2_split 39 = .ok (.istore 12, 2) := by decide +kernel
theorem dX2_split_41 : decode cX2_split 41 = .ok (.iload 12, 2) := by decide +kernel
theorem dX2_split_43 : decode cX2_split 43 = .ok (.iconst 3, 1) := by decide +kernel
theorem dX2_split_44 : decode cX2_split 44 = .ok (.if_icmp .ge 148, 3) := by decide +kernel
theorem dX2_split_47 : decode cX2_split 47 = .ok (.iconst 0, 1) := by decide +kernel
theorem dX2_split_48 : decode cX2_split 48 = .ok (.istore 13, 2) := by decide +kernel
theorem dX2_split_50 : decode cX2_split 50 = .ok (.iload 13, 2) := by decide +kernel
theorem dX2_split_52 : decode cX2_split 52 = .ok (.bipush 7, 2) := by decide +kernel
theorem dX2_split_54 : decode cX2_split 54 = .ok (.if_icmp .ge 132, 3) := by decide +kernel
theorem dX2_split_57 : decode cX2_split 57 = .ok (.aload_n 0, 1) := by decide +kernel
theorem dX2_split_58 : decode cX2_split 58 = .ok (.iload_n 2, 1) := by decide +kernel
theorem dX2_split_59 : decode cX2_split 59 = .ok (.iload 12, 2) := by decide +kernel
theorem dX2_split_61 : decode cX2_split 61 = .ok (.iload 13, 2) := by decide +kernel
theorem dX2_split_63 : decode cX2_split 63 = .ok (.invokevirtual 49, 3) := by decide +kernel
theorem dX2_split_66 : decode cX2_split 66 = .ok (.i2l, 1) := by decide +kernel
theorem dX2_split_67 : decode cX2_split 67 = .ok (.lstore 14, 2) := by decide +kernel
theorem dX2_split_69 : decode cX2_split 69 = .ok (.aload_n 0, 1) := by decide +kernel
theorem dX2_split_70 : decode cX2_split 70 = .ok (.iload_n 2, 1) := by decide +kernel
theorem dX2_split_71 : decode cX2_split 71 = .ok (.iload 12, 2) := by decide +kernel
theorem dX2_split_73 : decode cX2_split 73 = .ok (.iload 13, 2) := by decide +kernel
theorem dX2_split_75 : decode cX2_split 75 = .ok (.invokevirtual 53, 3) := by decide +kernel
theorem dX2_split_78 : decode cX2_split 78 = .ok (.lstore 16, 2) := by decide +kernel
theorem dX2_split_80 : decode cX2_split 80 = .ok (.lload_n 3, 1) := by decide +kernel
theorem dX2_split_81 : decode cX2_split 81 = .ok (.lload 14, 2) := by decide +kernel
theorem dX2_split_83 : decode cX2_split 83 = .ok (.lsub, 1) := by decide +kernel
theorem dX2_split_84 : decode cX2_split 84 = .ok (.lstore 18, 2) := by decide +kernel
theorem dX2_split_86 : decode cX2_split 86 = .ok (.lload 5, 2) := by decide +kernel
theorem dX2_split_88 : decode cX2_split 88 = .ok (.lload 16, 2) := by decide +kernel
theorem dX2_split_90 : decode cX2_split 90 = .ok (.lsub, 1) := by decide +kernel
theorem dX2_split_91 : decode cX2_split 91 = .ok (.lstore 20, 2) := by decide +kernel
theorem dX2_split_93 : decode cX2_split 93 = .ok (.lload 16, 2) := by decide +kernel
theorem dX2_split_95 : decode cX2_split 95 = .ok (.lload 16, 2) := by decide +kernel
theorem dX2_split_97 : decode cX2_split 97 = .ok (.lmul, 1) := by decide +kernel
theorem dX2_split_98 : decode cX2_split 98 = .ok (.lload 18, 2) := by decide +kernel
theorem dX2_split_100 : decode cX2_split 100 = .ok (.lmul, 1) := by decide +kernel
theorem dX2_split_101 : decode cX2_split 101 = .ok (.lload 20, 2) := by decide +kernel
theorem dX2_split_103 : decode cX2_split 103 = .ok (.lload 20, 2) := by decide +kernel
theorem dX2_split_105 : decode cX2_split 105 = .ok (.lmul, 1) := by decide +kernel
theorem dX2_split_106 : decode cX2_split 106 = .ok (.lload 14, 2) := by decide +kernel
theorem dX2_split_108 : decode cX2_split 108 = .ok (.lmul, 1) := by decide +kernel
theorem dX2_split_109 : decode cX2_split 109 = .ok (.ladd, 1) := by decide +kernel
theorem dX2_split_110 : decode cX2_split 110 = .ok (.lstore 22, 2) := by decide +kernel
theorem dX2_split_112 : decode cX2_split 112 = .ok (.lload 14, 2) := by decide +kernel
theorem dX2_split_114 : decode cX2_split 114 = .ok (.aload_n 0, 1) := by decide +kernel
theorem dX2_split_115 : decode cX2_split 115 = .ok (.getfield 34, 3) := by decide +kernel
theorem dX2_split_118 : decode cX2_split 118 = .ok (.i2l, 1) := by decide +kernel
theorem dX2_split_119 : decode cX2_split 119 = .ok (.lcmp, 1) := by decide +kernel
theorem dX2_split_120 : decode cX2_split 120 = .ok (.ifCond .lt 60, 3) := by decide +kernel
theorem dX2_split_123 : decode cX2_split 123 = .ok (.lload 18, 2) := by decide +kernel
theorem dX2_split_125 : decode cX2_split 125 = .ok (.aload_n 0, 1) := by decide +kernel
theorem dX2_split_126 : decode cX2_split 126 = .ok (.getfield 34, 3) := by decide +kernel
theorem dX2_split_129 : decode cX2_split 129 = .ok (.i2l, 1) := by decide +kernel
theorem dX2_split_130 : decode cX2_split 130 = .ok (.lcmp, 1) := by decide +kernel
theorem dX2_split_131 : decode cX2_split 131 = .ok (.ifCond .lt 49, 3) := by decide +kernel
theorem dX2_split_134 : decode cX2_split 134 = .ok (.lload 22, 2) := by decide +kernel
theorem dX2_split_136 : decode cX2_split 136 = .ok (.lload 9, 2) := by decide +kernel
theorem dX2_split_138 : decode cX2_split 138 = .ok (.lmul, 1) := by decide +kernel
theorem dX2_split_139 : decode cX2_split 139 = .ok (.lload 7, 2) := by decide +kernel
theorem dX2_split_141 : decode cX2_split 141 = .ok (.lload 14, 2) := by decide +kernel
theorem dX2_split_143 : decode cX2_split 143 = .ok (.lmul, 1) := by decide +kernel
theorem dX2_split_144 : decode cX2_split 144 = .ok (.lload 18, 2) := by decide +kernel
theorem dX2_split_146 : decode cX2_split 146 = .ok (.lmul, 1) := by decide +kernel
theorem dX2_split_147 : decode cX2_split 147 = .ok (.lcmp, 1) := by decide +kernel
theorem dX2_split_148 : decode cX2_split 148 = .ok (.ifCond .le 32, 3) := by decide +kernel
theorem dX2_split_151 : decode cX2_split 151 = .ok (.lload 22, 2) := by decide +kernel
theorem dX2_split_153 : decode cX2_split 153 = .ok (.lstore 7, 2) := by decide +kernel
theorem dX2_split_155 : decode cX2_split 155 = .ok (.lload 14, 2) := by decide +kernel
theorem dX2_split_157 : decode cX2_split 157 = .ok (.lload 18, 2) := by decide +kernel
theorem dX2_split_159 : decode cX2_split 159 = .ok (.lmul, 1) := by decide +kernel
theorem dX2_split_160 : decode cX2_split 160 = .ok (.lstore 9, 2) := by decide +kernel
theorem dX2_split_162 : decode cX2_split 162 = .ok (.aload_n 0, 1) := by decide +kernel
theorem dX2_split_163 : decode cX2_split 163 = .ok (.getfield 16, 3) := by decide +kernel
theorem dX2_split_166 : decode cX2_split 166 = .ok (.iload 11, 2) := by decide +kernel
theorem dX2_split_168 : decode cX2_split 168 = .ok (.iload 12, 2) := by decide +kernel
theorem dX2_split_170 : decode cX2_split 170 = .ok (.iastore, 1) := by decide +kernel
theorem dX2_split_171 : decode cX2_split 171 = .ok (.aload_n 0, 1) := by decide +kernel
theorem dX2_split_172 : decode cX2_split 172 = .ok (.getfield 19, 3) := by decide +kernel
theorem dX2_split_175 : decode cX2_split 175 = .ok (.iload 11, 2) := by decide +kernel
theorem dX2_split_177 : decode cX2_split 177 = .ok (.iload 13, 2) := by decide +kernel
theorem dX2_split_179 : decode cX2_split 179 = .ok (.iastore, 1) := by decide +kernel
theorem dX2_split_180 : decode cX2_split 180 = .ok (.iinc 13 1, 3) := by decide +kernel
theorem dX2_split_183 : decode cX2_split 183 = .ok (.goto (-133), 3) := by decide +kernel
theorem dX2_split_186 : decode cX2_split 186 = .ok (.iinc 12 1, 3) := by decide +kernel
theorem dX2_split_189 : decode cX2_split 189 = .ok (.goto (-148), 3) := by decide +kernel
theorem dX2_split_192 : decode cX2_split 192 = .ok (.aload_n 0, 1) := by decide +kernel
theorem dX2_split_193 : decode cX2_split 193 = .ok (.getfield 16, 3) := by decide +kernel
theorem dX2_split_196 : decode cX2_split 196 = .ok (.iload 11, 2) := by decide +kernel
theorem dX2_split_198 : decode cX2_split 198 = .ok (.iaload, 1) := by decide +kernel
theorem dX2_split_199 : decode cX2_split 199 = .ok (.ifCond .lt 9, 3) := by decide +kernel
theorem dX2_split_202 : decode cX2_split 202 = .ok (.aload_n 0, 1) := by decide +kernel
theorem dX2_split_203 : decode cX2_split 203 = .ok (.iload_n 1, 1) := by decide +kernel
theorem dX2_split_204 : decode cX2_split 204 = .ok (.iload_n 2, 1) := by decide +kernel
theorem dX2_split_205 : decode cX2_split 205 = .ok (.invokevirtual 57, 3) := by decide +kernel
theorem dX2_split_208 : decode cX2_split 208 = .ok (.return_, 1) := by decide +kernel
theorem dX2_send_0 : decode cX2_send 0 = .ok (.iload_n 1, 1) := by decide +kernel
theorem dX2_send_1 : decode cX2_send 1 = .ok (.bipush 7, 2) := by decide +kernel
theorem dX2_send_3 : decode cX2_send 3 = .ok (.imul, 1) := by decide +kernel
theorem dX2_send_4 : decode cX2_send 4 = .ok (.iload_n 2, 1) := by decide +kernel
theorem dX2_send_5 : decode cX2_send 5 = .ok (.iadd, 1) := by decide +kernel
theorem dX2_send_6 : decode cX2_send 6 = .ok (.istore_n 3, 1) := by decide +kernel
theorem dX2_send_7 : decode cX2_send 7 = .ok (.iconst 0, 1) := by decide +kernel
theorem dX2_send_8 : decode cX2_send 8 = .ok (.istore 4, 2) := by decide +kernel
theorem dX2_send_10 : decode cX2_send 10 = .ok (.iload 4, 2) := by decide +kernel
theorem dX2_send_12 : decode cX2_send 12 = .ok (.aload_n 0, 1) := by decide +kernel
theorem dX2_send_13 : decode cX2_send 13 = .ok (.getfield 42, 3) := by decide +kernel
theorem dX2_send_16 : decode cX2_send 16 = .ok (.if_icmp .ge 66, 3) := by decide +kernel
theorem dX2_send_19 : decode cX2_send 19 = .ok (.aload_n 0, 1) := by decide +kernel
theorem dX2_send_20 : decode cX2_send 20 = .ok (.getfield 31, 3) := by decide +kernel
theorem dX2_send_23 : decode cX2_send 23 = .ok (.iload 4, 2) := by decide +kernel
theorem dX2_send_25 : decode cX2_send 25 = .ok (.iaload, 1) := by decide +kernel
theorem dX2_send_26 : decode cX2_send 26 = .ok (.iload_n 2, 1) := by decide +kernel
theorem dX2_send_27 : decode cX2_send 27 = .ok (.if_icmp .ne 49, 3) := by decide +kernel
theorem dX2_send_30 : decode cX2_send 30 = .ok (.aload_n 0, 1) := by decide +kernel
theorem dX2_send_31 : decode cX2_send 31 = .ok (.getfield 31, 3) := by decide +kernel
theorem dX2_send_34 : decode cX2_send 34 = .ok (.iload 4, 2) := by decide +kernel
theorem dX2_send_36 : decode cX2_send 36 = .ok (.aload_n 0, 1) := by decide +kernel
theorem dX2_send_37 : decode cX2_send 37 = .ok (.aload_n 0, 1) := by decide +kernel
theorem dX2_send_38 : decode cX2_send 38 = .ok (.getfield 7, 3) := by decide +kernel
theorem dX2_send_41 : decode cX2_send 41 = .ok (.iload 4, 2) := by decide +kernel
theorem dX2_send_43 : decode cX2_send 43 = .ok (.iaload, 1) := by decide +kernel
theorem dX2_send_44 : decode cX2_send 44 = .ok (.aload_n 0, 1) := by decide +kernel
theorem dX2_send_45 : decode cX2_send 45 = .ok (.getfield 16, 3) := by decide +kernel
theorem dX2_send_48 : decode cX2_send 48 = .ok (.iload_n 3, 1) := by decide +kernel
theorem dX2_send_49 : decode cX2_send 49 = .ok (.iaload, 1) := by decide +kernel
theorem dX2_send_50 : decode cX2_send 50 = .ok (.invokevirtual 45, 3) := by decide +kernel
theorem dX2_send_53 : decode cX2_send 53 = .ok (.aload_n 0, 1) := by decide +kernel
theorem dX2_send_54 : decode cX2_send 54 = .ok (.getfield 19, 3) := by decide +kernel
theorem dX2_send_57 : decode cX2_send 57 = .ok (.iload_n 3, 1) := by decide +kernel
theorem dX2_send_58 : decode cX2_send 58 = .ok (.iaload, 1) := by decide +kernel
theorem dX2_send_59 : decode cX2_send 59 = .ok (.if_icmp .gt 11, 3) := by decide +kernel
theorem dX2_send_62 : decode cX2_send 62 = .ok (.iconst 2, 1) := by decide +kernel
theorem dX2_send_63 : decode cX2_send 63 = .ok (.iload_n 2, 1) := by decide +kernel
theorem dX2_send_64 : decode cX2_send 64 = .ok (.imul, 1) := by decide +kernel
theorem dX2_send_65 : decode cX2_send 65 = .ok (.iconst 1, 1) := by decide +kernel
theorem dX2_send_66 : decode cX2_send 66 = .ok (.iadd, 1) := by decide +kernel
theorem dX2_send_67 : decode cX2_send 67 = .ok (.goto 8, 3) := by decide +kernel
theorem dX2_send_70 : decode cX2_send 70 = .ok (.iconst 2, 1) := by decide +kernel
theorem dX2_send_71 : decode cX2_send 71 = .ok (.iload_n 2, 1) := by decide +kernel
theorem dX2_send_72 : decode cX2_send 72 = .ok (.imul, 1) := by decide +kernel
theorem dX2_send_73 : decode cX2_send 73 = .ok (.iconst 2, 1) := by decide +kernel
theorem dX2_send_74 : decode cX2_send 74 = .ok (.iadd, 1) := by decide +kernel
theorem dX2_send_75 : decode cX2_send 75 = .ok (.iastore, 1) := by decide +kernel
theorem dX2_send_76 : decode cX2_send 76 = .ok (.iinc 4 1, 3) := by decide +kernel
theorem dX2_send_79 : decode cX2_send 79 = .ok (.goto (-69), 3) := by decide +kernel
theorem dX2_send_82 : decode cX2_send 82 = .ok (.aload_n 0, 1) := by decide +kernel
theorem dX2_send_83 : decode cX2_send 83 = .ok (.getfield 16, 3) := by decide +kernel
theorem dX2_send_86 : decode cX2_send 86 = .ok (.iload_n 3, 1) := by decide +kernel
theorem dX2_send_87 : decode cX2_send 87 = .ok (.iload_n 2, 1) := by decide +kernel
theorem dX2_send_88 : decode cX2_send 88 = .ok (.iadd, 1) := by decide +kernel
theorem dX2_send_89 : decode cX2_send 89 = .ok (.iconst 1, 1) := by decide +kernel
theorem dX2_send_90 : decode cX2_send 90 = .ok (.iadd, 1) := by decide +kernel
theorem dX2_send_91 : decode cX2_send 91 = .ok (.bipush (-6), 2) := by decide +kernel
theorem dX2_send_93 : decode cX2_send 93 = .ok (.iastore, 1) := by decide +kernel
theorem dX2_send_94 : decode cX2_send 94 = .ok (.aload_n 0, 1) := by decide +kernel
theorem dX2_send_95 : decode cX2_send 95 = .ok (.getfield 16, 3) := by decide +kernel
theorem dX2_send_98 : decode cX2_send 98 = .ok (.iload_n 3, 1) := by decide +kernel
theorem dX2_send_99 : decode cX2_send 99 = .ok (.iload_n 2, 1) := by decide +kernel
theorem dX2_send_100 : decode cX2_send 100 = .ok (.iadd, 1) := by decide +kernel
theorem dX2_send_101 : decode cX2_send 101 = .ok (.iconst 2, 1) := by decide +kernel
theorem dX2_send_102 : decode cX2_send 102 = .ok (.iadd, 1) := by decide +kernel
theorem dX2_send_103 : decode cX2_send 103 = .ok (.bipush (-6), 2) := by decide +kernel
theorem dX2_send_105 : decode cX2_send 105 = .ok (.iastore, 1) := by decide +kernel
theorem dX2_send_106 : decode cX2_send 106 = .ok (.return_, 1) := by decide +kernel
theorem dX2_dropTree_0 : decode cX2_dropTree 0 = .ok (.aload_n 0, 1) := by decide +kernel
theorem dX2_dropTree_1 : decode cX2_dropTree 1 = .ok (.getfield 61, 3) := by decide +kernel
theorem dX2_dropTree_4 : decode cX2_dropTree 4 = .ok (.ifCond .ne 6, 3) := by decide +kernel
theorem dX2_dropTree_7 : decode cX2_dropTree 7 = .ok (.bipush (-7), 2) := by decide +kernel
theorem dX2_dropTree_9 : decode cX2_dropTree 9 = .ok (.ireturn, 1) := by decide +kernel
theorem dX2_dropTree_10 : decode cX2_dropTree 10 = .ok (.aload_n 0, 1) := by decide +kernel
theorem dX2_dropTree_11 : decode cX2_dropTree 11 = .ok (.aload_n 0, 1) := by decide +kernel
theorem dX2_dropTree_12 : decode cX2_dropTree 12 = .ok (.getfield 61, 3) := by decide +kernel
theorem dX2_dropTree_15 : decode cX2_dropTree 15 = .ok (.iconst 1, 1) := by decide +kernel
theorem dX2_dropTree_16 : decode cX2_dropTree 16 = .ok (.isub, 1) := by decide +kernel
theorem dX2_dropTree_17 : decode cX2_dropTree 17 = .ok (.putfield 61, 3) := by decide +kernel
theorem dX2_dropTree_20 : decode cX2_dropTree 20 = .ok (.aload_n 0, 1) := by decide +kernel
theorem dX2_dropTree_21 : decode cX2_dropTree 21 = .ok (.getfield 61, 3) := by decide +kernel
theorem dX2_dropTree_24 : decode cX2_dropTree 24 = .ok (.ireturn, 1) := by decide +kernel
theorem dX2_clear_0 : decode cX2_clear 0 = .ok (.aload_n 0, 1) := by decide +kernel
theorem dX2_clear_1 : decode cX2_clear 1 = .ok (.iconst 0, 1) := by decide +kernel
theorem dX2_clear_2 : decode cX2_clear 2 = .ok (.putfield 42, 3) := by decide +kernel
theorem dX2_clear_5 : decode cX2_clear 5 = .ok (.aload_n 0, 1) := by decide +kernel
theorem dX2_clear_6 : decode cX2_clear 6 = .ok (.iconst 0, 1) := by decide +kernel
theorem dX2_clear_7 : decode cX2_clear 7 = .ok (.putfield 61, 3) := by decide +kernel
theorem dX2_clear_10 : decode cX2_clear 10 = .ok (.return_, 1) := by decide +kernel
theorem dX2_loss_0 : decode cX2_loss 0 = .ok (.iconst 0, 1) := by decide +kernel
theorem dX2_loss_1 : decode cX2_loss 1 = .ok (.istore_n 1, 1) := by decide +kernel
theorem dX2_loss_2 : decode cX2_loss 2 = .ok (.iconst 0, 1) := by decide +kernel
theorem dX2_loss_3 : decode cX2_loss 3 = .ok (.istore_n 2, 1) := by decide +kernel
theorem dX2_loss_4 : decode cX2_loss 4 = .ok (.iload_n 2, 1) := by decide +kernel
theorem dX2_loss_5 : decode cX2_loss 5 = .ok (.aload_n 0, 1) := by decide +kernel
theorem dX2_loss_6 : decode cX2_loss 6 = .ok (.getfield 42, 3) := by decide +kernel
theorem dX2_loss_9 : decode cX2_loss 9 = .ok (.if_icmp .ge 21, 3) := by decide +kernel
theorem dX2_loss_12 : decode cX2_loss 12 = .ok (.aload_n 0, 1) := by decide +kernel
theorem dX2_loss_13 : decode cX2_loss 13 = .ok (.iload_n 2, 1) := by decide +kernel
theorem dX2_loss_14 : decode cX2_loss 14 = .ok (.invokevirtual 64, 3) := by decide +kernel
theorem dX2_loss_17 : decode cX2_loss 17 = .ok (.istore_n 3, 1) := by decide +kernel
theorem dX2_loss_18 : decode cX2_loss 18 = .ok (.iload_n 1, 1) := by decide +kernel
theorem dX2_loss_19 : decode cX2_loss 19 = .ok (.iload_n 3, 1) := by decide +kernel
theorem dX2_loss_20 : decode cX2_loss 20 = .ok (.iload_n 3, 1) := by decide +kernel
theorem dX2_loss_21 : decode cX2_loss 21 = .ok (.imul, 1) := by decide +kernel
theorem dX2_loss_22 : decode cX2_loss 22 = .ok (.iadd, 1) := by decide +kernel
theorem dX2_loss_23 : decode cX2_loss 23 = .ok (.istore_n 1, 1) := by decide +kernel
theorem dX2_loss_24 : decode cX2_loss 24 = .ok (.iinc 2 1, 3) := by decide +kernel
theorem dX2_loss_27 : decode cX2_loss 27 = .ok (.goto (-23), 3) := by decide +kernel
theorem dX2_loss_30 : decode cX2_loss 30 = .ok (.iload_n 1, 1) := by decide +kernel
theorem dX2_loss_31 : decode cX2_loss 31 = .ok (.ireturn, 1) := by decide +kernel
theorem dX2_feature_0 : decode cX2_feature 0 = .ok (.aload_n 0, 1) := by decide +kernel
theorem dX2_feature_1 : decode cX2_feature 1 = .ok (.iload_n 1, 1) := by decide +kernel
theorem dX2_feature_2 : decode cX2_feature 2 = .ok (.iload_n 2, 1) := by decide +kernel
theorem dX2_feature_3 : decode cX2_feature 3 = .ok (.invokevirtual 80, 3) := by decide +kernel
theorem dX2_feature_6 : decode cX2_feature 6 = .ok (.ifCond .eq 8, 3) := by decide +kernel
theorem dX2_feature_9 : decode cX2_feature 9 = .ok (.bipush (-5), 2) := by decide +kernel
theorem dX2_feature_11 : decode cX2_feature 11 = .ok (.goto 14, 3) := by decide +kernel
theorem dX2_feature_14 : decode cX2_feature 14 = .ok (.aload_n 0, 1) := by decide +kernel
theorem dX2_feature_15 : decode cX2_feature 15 = .ok (.getfield 16, 3) := by decide +kernel
theorem dX2_feature_18 : decode cX2_feature 18 = .ok (.iload_n 1, 1) := by decide +kernel
theorem dX2_feature_19 : decode cX2_feature 19 = .ok (.bipush 7, 2) := by decide +kernel
theorem dX2_feature_21 : decode cX2_feature 21 = .ok (.imul, 1) := by decide +kernel
theorem dX2_feature_22 : decode cX2_feature 22 = .ok (.iload_n 2, 1) := by decide +kernel
theorem dX2_feature_23 : decode cX2_feature 23 = .ok (.iadd, 1) := by decide +kernel
theorem dX2_feature_24 : decode cX2_feature 24 = .ok (.iaload, 1) := by decide +kernel
theorem dX2_feature_25 : decode cX2_feature 25 = .ok (.ireturn, 1) := by decide +kernel
theorem dX2_none_0 : decode cX2_none 0 = .ok (.iload_n 1, 1) := by decide +kernel
theorem dX2_none_1 : decode cX2_none 1 = .ok (.ifCond .lt 21, 3) := by decide +kernel
theorem dX2_none_4 : decode cX2_none 4 = .ok (.iload_n 1, 1) := by decide +kernel
theorem dX2_none_5 : decode cX2_none 5 = .ok (.aload_n 0, 1) := by decide +kernel
theorem dX2_none_6 : decode cX2_none 6 = .ok (.getfield 61, 3) := by decide +kernel
theorem dX2_none_9 : decode cX2_none 9 = .ok (.if_icmp .ge 13, 3) := by decide +kernel
theorem dX2_none_12 : decode cX2_none 12 = .ok (.iload_n 2, 1) := by decide +kernel
theorem dX2_none_13 : decode cX2_none 13 = .ok (.ifCond .lt 9, 3) := by decide +kernel
theorem dX2_none_16 : decode cX2_none 16 = .ok (.iload_n 2, 1) := by decide +kernel
theorem dX2_none_17 : decode cX2_none 17 = .ok (.bipush 6, 2) := by decide +kernel
theorem dX2_none_19 : decode cX2_none 19 = .ok (.if_icmp .le 7, 3) := by decide +kernel
theorem dX2_none_22 : decode cX2_none 22 = .ok (.iconst 1, 1) := by decide +kernel
theorem dX2_none_23 : decode cX2_none 23 = .ok (.goto 4, 3) := by decide +kernel
theorem dX2_none_26 : decode cX2_none 26 = .ok (.iconst 0, 1) := by decide +kernel
theorem dX2_none_27 : decode cX2_none 27 = .ok (.ireturn, 1) := by decide +kernel
theorem dX2_bound_0 : decode cX2_bound 0 = .ok (.aload_n 0, 1) := by decide +kernel
theorem dX2_bound_1 : decode cX2_bound 1 = .ok (.iload_n 1, 1) := by decide +kernel
theorem dX2_bound_2 : decode cX2_bound 2 = .ok (.iload_n 2, 1) := by decide +kernel
theorem dX2_bound_3 : decode cX2_bound 3 = .ok (.invokevirtual 80, 3) := by decide +kernel
theorem dX2_bound_6 : decode cX2_bound 6 = .ok (.ifCond .eq 6, 3) := by decide +kernel
theorem dX2_bound_9 : decode cX2_bound 9 = .ok (.bipush (-5), 2) := by decide +kernel
theorem dX2_bound_11 : decode cX2_bound 11 = .ok (.ireturn, 1) := by decide +kernel
theorem dX2_bound_12 : decode cX2_bound 12 = .ok (.aload_n 0, 1) := by decide +kernel
theorem dX2_bound_13 : decode cX2_bound 13 = .ok (.getfield 16, 3) := by decide +kernel
theorem dX2_bound_16 : decode cX2_bound 16 = .ok (.iload_n 1, 1) := by decide +kernel
theorem dX2_bound_17 : decode cX2_bound 17 = .ok (.bipush 7, 2) := by decide +kernel
theorem dX2_bound_19 : decode cX2_bound 19 = .ok (.imul, 1) := by decide +kernel
theorem dX2_bound_20 : decode cX2_bound 20 = .ok (.iload_n 2, 1) := by decide +kernel
theorem dX2_bound_21 : decode cX2_bound 21 = .ok (.iadd, 1) := by decide +kernel
theorem dX2_bound_22 : decode cX2_bound 22 = .ok (.iaload, 1) := by decide +kernel
theorem dX2_bound_23 : decode cX2_bound 23 = .ok (.istore_n 3, 1) := by decide +kernel
theorem dX2_bound_24 : decode cX2_bound 24 = .ok (.iload_n 3, 1) := by decide +kernel
theorem dX2_bound_25 : decode cX2_bound 25 = .ok (.ifCond .ge 7, 3) := by decide +kernel
theorem dX2_bound_28 : decode cX2_bound 28 = .ok (.iload_n 3, 1) := by decide +kernel
theorem dX2_bound_29 : decode cX2_bound 29 = .ok (.goto 14, 3) := by decide +kernel
theorem dX2_bound_32 : decode cX2_bound 32 = .ok (.aload_n 0, 1) := by decide +kernel
theorem dX2_bound_33 : decode cX2_bound 33 = .ok (.getfield 19, 3) := by decide +kernel
theorem dX2_bound_36 : decode cX2_bound 36 = .ok (.iload_n 1, 1) := by decide +kernel
theorem dX2_bound_37 : decode cX2_bound 37 = .ok (.bipush 7, 2) := by decide +kernel
theorem dX2_bound_39 : decode cX2_bound 39 = .ok (.imul, 1) := by decide +kernel
theorem dX2_bound_40 : decode cX2_bound 40 = .ok (.iload_n 2, 1) := by decide +kernel
theorem dX2_bound_41 : decode cX2_bound 41 = .ok (.iadd, 1) := by decide +kernel
theorem dX2_bound_42 : decode cX2_bound 42 = .ok (.iaload, 1) := by decide +kernel
theorem dX2_bound_43 : decode cX2_bound 43 = .ok (.ireturn, 1) := by decide +kernel
theorem dX2_value_0 : decode cX2_value 0 = .ok (.aload_n 0, 1) := by decide +kernel
theorem dX2_value_1 : decode cX2_value 1 = .ok (.iload_n 1, 1) := by decide +kernel
theorem dX2_value_2 : decode cX2_value 2 = .ok (.iload_n 2, 1) := by decide +kernel
theorem dX2_value_3 : decode cX2_value 3 = .ok (.invokevirtual 80, 3) := by decide +kernel
theorem dX2_value_6 : decode cX2_value 6 = .ok (.ifCond .ne 19, 3) := by decide +kernel
theorem dX2_value_9 : decode cX2_value 9 = .ok (.aload_n 0, 1) := by decide +kernel
theorem dX2_value_10 : decode cX2_value 10 = .ok (.getfield 16, 3) := by decide +kernel
theorem dX2_value_13 : decode cX2_value 13 = .ok (.iload_n 1, 1) := by decide +kernel
theorem dX2_value_14 : decode cX2_value 14 = .ok (.bipush 7, 2) := by decide +kernel
theorem dX2_value_16 : decode cX2_value 16 = .ok (.imul, 1) := by decide +kernel
theorem dX2_value_17 : decode cX2_value 17 = .ok (.iload_n 2, 1) := by decide +kernel
theorem dX2_value_18 : decode cX2_value 18 = .ok (.iadd, 1) := by decide +kernel
theorem dX2_value_19 : decode cX2_value 19 = .ok (.iaload, 1) := by decide +kernel
theorem dX2_value_20 : decode cX2_value 20 = .ok (.bipush (-6), 2) := by decide +kernel
theorem dX2_value_22 : decode cX2_value 22 = .ok (.if_icmp .eq 7, 3) := by decide +kernel
theorem dX2_value_25 : decode cX2_value 25 = .ok (.iconst 0, 1) := by decide +kernel
theorem dX2_value_26 : decode cX2_value 26 = .ok (.goto 14, 3) := by decide +kernel
theorem dX2_value_29 : decode cX2_value 29 = .ok (.aload_n 0, 1) := by decide +kernel
theorem dX2_value_30 : decode cX2_value 30 = .ok (.getfield 22, 3) := by decide +kernel
theorem dX2_value_33 : decode cX2_value 33 = .ok (.iload_n 1, 1) := by decide +kernel
theorem dX2_value_34 : decode cX2_value 34 = .ok (.bipush 7, 2) := by decide +kernel
theorem dX2_value_36 : decode cX2_value 36 = .ok (.imul, 1) := by decide +kernel
theorem dX2_value_37 : decode cX2_value 37 = .ok (.iload_n 2, 1) := by decide +kernel
theorem dX2_value_38 : decode cX2_value 38 = .ok (.iadd, 1) := by decide +kernel
theorem dX2_value_39 : decode cX2_value 39 = .ok (.iaload, 1) := by decide +kernel
theorem dX2_value_40 : decode cX2_value 40 = .ok (.ireturn, 1) := by decide +kernel
theorem dX2_rows_0 : decode cX2_rows 0 = .ok (.aload_n 0, 1) := by decide +kernel
theorem dX2_rows_1 : decode cX2_rows 1 = .ok (.iload_n 1, 1) := by decide +kernel
theorem dX2_rows_2 : decode cX2_rows 2 = .ok (.iload_n 2, 1) := by decide +kernel
theorem dX2_rows_3 : decode cX2_rows 3 = .ok (.invokevirtual 80, 3) := by decide +kernel
theorem dX2_rows_6 : decode cX2_rows 6 = .ok (.ifCond .eq 8, 3) := by decide +kernel
theorem dX2_rows_9 : decode cX2_rows 9 = .ok (.bipush (-5), 2) := by decide +kernel
theorem dX2_rows_11 : decode cX2_rows 11 = .ok (.goto 14, 3) := by decide +kernel
theorem dX2_rows_14 : decode cX2_rows 14 = .ok (.aload_n 0, 1) := by decide +kernel
theorem dX2_rows_15 : decode cX2_rows 15 = .ok (.getfield 25, 3) := by decide +kernel
theorem dX2_rows_18 : decode cX2_rows 18 = .ok (.iload_n 1, 1) := by decide +kernel
theorem dX2_rows_19 : decode cX2_rows 19 = .ok (.bipush 7, 2) := by decide +kernel
theorem dX2_rows_21 : decode cX2_rows 21 = .ok (.imul, 1) := by decide +kernel
theorem dX2_rows_22 : decode cX2_rows 22 = .ok (.iload_n 2, 1) := by decide +kernel
theorem dX2_rows_23 : decode cX2_rows 23 = .ok (.iadd, 1) := by decide +kernel
theorem dX2_rows_24 : decode cX2_rows 24 = .ok (.iaload, 1) := by decide +kernel
theorem dX2_rows_25 : decode cX2_rows 25 = .ok (.ireturn, 1) := by decide +kernel
end
section
/-! java/lang/Object -/
set_option maxRecDepth 100000
def RJ0 : String := "java/lang/Object"
abbrev cJ0_init : ByteArray := object_method_1_code
def yJ0_init : MethodName := ⟨RJ0, "<init>", "()V"⟩
theorem dJ0_init_0 : decode cJ0_init 0 = .ok (.return_, 1) := by decide +kernel
theorem q34 : (Jvm.Cond.instanceMethod ({ cls := "java/lang/Object", name := "<init>", desc := "()V" } : Jvm.MethodName)) ∈ lw_all := lw_g (lw_at lw_m1 9 rfl) rfl
theorem q35 : (Jvm.Cond.code ({ cls := "java/lang/Object", name := "<init>", desc := "()V" } : Jvm.MethodName) object_method_1_code (1 : Nat) (Option.none : Option Jvm.ClassFile.FieldType)) ∈ lw_all := lw_g (lw_at lw_m1 10 rfl) rfl

/-! HistogramTreeLaw -/
set_option maxRecDepth 100000
def RX0 : String := "HistogramTreeLaw"
abbrev cX0_cell : ByteArray := method_2_code
def yX0_cell : MethodName := ⟨RX0, "cell", "([II)I"⟩
theorem dX0_cell_0 : decode cX0_cell 0 = .ok (.iload_n 1, 1) := by decide +kernel
theorem dX0_cell_1 : decode cX0_cell 1 = .ok (.aload_n 0, 1) := by decide +kernel
theorem dX0_cell_2 : decode cX0_cell 2 = .ok (.arraylength, 1) := by decide +kernel
theorem dX0_cell_3 : decode cX0_cell 3 = .ok (.if_icmp .ge 9, 3) := by decide +kernel
theorem dX0_cell_6 : decode cX0_cell 6 = .ok (.aload_n 0, 1) := by decide +kernel
theorem dX0_cell_7 : decode cX0_cell 7 = .ok (.iload_n 1, 1) := by decide +kernel
theorem dX0_cell_8 : decode cX0_cell 8 = .ok (.iaload, 1) := by decide +kernel
theorem dX0_cell_9 : decode cX0_cell 9 = .ok (.goto 4, 3) := by decide +kernel
theorem dX0_cell_12 : decode cX0_cell 12 = .ok (.iconst 0, 1) := by decide +kernel
theorem dX0_cell_13 : decode cX0_cell 13 = .ok (.ireturn, 1) := by decide +kernel
theorem q25 : (Jvm.Cond.initialized "HistogramTreeLaw") ∈ lw_all := lw_g (lw_at lw_m1 0 rfl) rfl
theorem q28 : (Jvm.Cond.classLink "HistogramTreeLaw" (7 : Nat) "HistogramTree") ∈ lw_all := lw_g (lw_at lw_m1 3 rfl) rfl
theorem q30 : (Jvm.Cond.methodLink "HistogramTreeLaw" (15 : Nat) ({ cls := "HistogramTree", name := "<init>", desc := "(I)V" } : Jvm.MethodName)) ∈ lw_all := lw_g (lw_at lw_m1 5 rfl) rfl
theorem q89 : (Jvm.Cond.methodLink "HistogramTreeLaw" (21 : Nat) ({ cls := "HistogramTree", name := "row", desc := "(II)I" } : Jvm.MethodName)) ∈ lw_all := lw_g (lw_at lw_m1 64 rfl) rfl
theorem q93 : (Jvm.Cond.methodLink "HistogramTreeLaw" (26 : Nat) ({ cls := "HistogramTree", name := "retarget", desc := "(II)I" } : Jvm.MethodName)) ∈ lw_all := lw_g (lw_at lw_m1 68 rfl) rfl
theorem q97 : (Jvm.Cond.methodLink "HistogramTreeLaw" (30 : Nat) ({ cls := "HistogramTree", name := "train", desc := "()I" } : Jvm.MethodName)) ∈ lw_all := lw_g (lw_at lw_m1 72 rfl) rfl
theorem q164 : (Jvm.Cond.methodLink "HistogramTreeLaw" (35 : Nat) ({ cls := "HistogramTree", name := "dropTree", desc := "()I" } : Jvm.MethodName)) ∈ lw_all := lw_g (lw_at lw_m1 139 rfl) rfl
theorem q168 : (Jvm.Cond.methodLink "HistogramTreeLaw" (39 : Nat) ({ cls := "HistogramTree", name := "clear", desc := "()V" } : Jvm.MethodName)) ∈ lw_all := lw_g (lw_at lw_m1 143 rfl) rfl
theorem q172 : (Jvm.Cond.methodLink "HistogramTreeLaw" (43 : Nat) ({ cls := "HistogramTree", name := "predict", desc := "(I)I" } : Jvm.MethodName)) ∈ lw_all := lw_g (lw_at lw_m1 147 rfl) rfl
theorem q176 : (Jvm.Cond.methodLink "HistogramTreeLaw" (48 : Nat) ({ cls := "HistogramTree", name := "rest", desc := "(I)I" } : Jvm.MethodName)) ∈ lw_all := lw_g (lw_at lw_m1 151 rfl) rfl
theorem q180 : (Jvm.Cond.methodLink "HistogramTreeLaw" (52 : Nat) ({ cls := "HistogramTree", name := "loss", desc := "()I" } : Jvm.MethodName)) ∈ lw_all := lw_g (lw_at lw_m1 155 rfl) rfl
theorem q184 : (Jvm.Cond.methodLink "HistogramTreeLaw" (56 : Nat) ({ cls := "HistogramTree", name := "feature", desc := "(II)I" } : Jvm.MethodName)) ∈ lw_all := lw_g (lw_at lw_m1 159 rfl) rfl
theorem q192 : (Jvm.Cond.methodLink "HistogramTreeLaw" (60 : Nat) ({ cls := "HistogramTree", name := "bound", desc := "(II)I" } : Jvm.MethodName)) ∈ lw_all := lw_g (lw_at lw_m1 167 rfl) rfl
theorem q196 : (Jvm.Cond.methodLink "HistogramTreeLaw" (64 : Nat) ({ cls := "HistogramTree", name := "value", desc := "(II)I" } : Jvm.MethodName)) ∈ lw_all := lw_g (lw_at lw_m1 171 rfl) rfl
theorem q200 : (Jvm.Cond.methodLink "HistogramTreeLaw" (68 : Nat) ({ cls := "HistogramTree", name := "rows", desc := "(II)I" } : Jvm.MethodName)) ∈ lw_all := lw_g (lw_at lw_m1 175 rfl) rfl
theorem q204 : (Jvm.Cond.methodLink "HistogramTreeLaw" (9 : Nat) ({ cls := "HistogramTreeLaw", name := "cell", desc := "([II)I" } : Jvm.MethodName)) ∈ lw_all := lw_g (lw_at lw_m1 179 rfl) rfl
theorem q205 : (Jvm.Cond.static ({ cls := "HistogramTreeLaw", name := "cell", desc := "([II)I" } : Jvm.MethodName)) ∈ lw_all := lw_g (lw_at lw_m1 180 rfl) rfl
theorem q206 : (Jvm.Cond.code ({ cls := "HistogramTreeLaw", name := "cell", desc := "([II)I" } : Jvm.MethodName) method_2_code (2 : Nat) (Option.some Jvm.ClassFile.FieldType.int)) ∈ lw_all := lw_g (lw_at lw_m1 181 rfl) rfl
theorem q207 : (Jvm.Cond.classLink "HistogramTreeLaw" (18 : Nat) "HistogramTreeModel") ∈ lw_all := lw_g (lw_at lw_m1 182 rfl) rfl
theorem q209 : (Jvm.Cond.methodLink "HistogramTreeLaw" (20 : Nat) ({ cls := "HistogramTreeModel", name := "<init>", desc := "(I)V" } : Jvm.MethodName)) ∈ lw_all := lw_g (lw_at lw_m1 184 rfl) rfl
theorem q247 : (Jvm.Cond.methodLink "HistogramTreeLaw" (25 : Nat) ({ cls := "HistogramTreeModel", name := "row", desc := "(II)I" } : Jvm.MethodName)) ∈ lw_all := lw_g (lw_at lw_m1 222 rfl) rfl
theorem q255 : (Jvm.Cond.methodLink "HistogramTreeLaw" (29 : Nat) ({ cls := "HistogramTreeModel", name := "retarget", desc := "(II)I" } : Jvm.MethodName)) ∈ lw_all := lw_g (lw_at lw_m1 230 rfl) rfl
theorem q259 : (Jvm.Cond.methodLink "HistogramTreeLaw" (34 : Nat) ({ cls := "HistogramTreeModel", name := "train", desc := "()I" } : Jvm.MethodName)) ∈ lw_all := lw_g (lw_at lw_m1 234 rfl) rfl
theorem q299 : (Jvm.Cond.methodLink "HistogramTreeLaw" (38 : Nat) ({ cls := "HistogramTreeModel", name := "dropTree", desc := "()I" } : Jvm.MethodName)) ∈ lw_all := lw_g (lw_at lw_m2 34 rfl) rfl
theorem q303 : (Jvm.Cond.methodLink "HistogramTreeLaw" (42 : Nat) ({ cls := "HistogramTreeModel", name := "clear", desc := "()V" } : Jvm.MethodName)) ∈ lw_all := lw_g (lw_at lw_m2 38 rfl) rfl
theorem q307 : (Jvm.Cond.methodLink "HistogramTreeLaw" (47 : Nat) ({ cls := "HistogramTreeModel", name := "predict", desc := "(I)I" } : Jvm.MethodName)) ∈ lw_all := lw_g (lw_at lw_m2 42 rfl) rfl
theorem q308 : (Jvm.Cond.methodLink "HistogramTreeLaw" (51 : Nat) ({ cls := "HistogramTreeModel", name := "rest", desc := "(I)I" } : Jvm.MethodName)) ∈ lw_all := lw_g (lw_at lw_m2 43 rfl) rfl
theorem q309 : (Jvm.Cond.methodLink "HistogramTreeLaw" (55 : Nat) ({ cls := "HistogramTreeModel", name := "loss", desc := "()I" } : Jvm.MethodName)) ∈ lw_all := lw_g (lw_at lw_m2 44 rfl) rfl
theorem q313 : (Jvm.Cond.methodLink "HistogramTreeLaw" (59 : Nat) ({ cls := "HistogramTreeModel", name := "feature", desc := "(II)I" } : Jvm.MethodName)) ∈ lw_all := lw_g (lw_at lw_m2 48 rfl) rfl
theorem q321 : (Jvm.Cond.methodLink "HistogramTreeLaw" (63 : Nat) ({ cls := "HistogramTreeModel", name := "bound", desc := "(II)I" } : Jvm.MethodName)) ∈ lw_all := lw_g (lw_at lw_m2 56 rfl) rfl
theorem q325 : (Jvm.Cond.methodLink "HistogramTreeLaw" (67 : Nat) ({ cls := "HistogramTreeModel", name := "value", desc := "(II)I" } : Jvm.MethodName)) ∈ lw_all := lw_g (lw_at lw_m2 60 rfl) rfl
theorem q329 : (Jvm.Cond.methodLink "HistogramTreeLaw" (71 : Nat) ({ cls := "HistogramTreeModel", name := "rows", desc := "(II)I" } : Jvm.MethodName)) ∈ lw_all := lw_g (lw_at lw_m2 64 rfl) rfl

/-! the law's own entry -/
set_option maxRecDepth 100000
abbrev cL_law : ByteArray := code
theorem dL_law_0 : decode cL_law 0 = .ok (.new 7, 3) := by decide +kernel
theorem dL_law_3 : decode cL_law 3 = .ok (.dup, 1) := by decide +kernel
theorem dL_law_4 : decode cL_law 4 = .ok (.aload_n 0, 1) := by decide +kernel
theorem dL_law_5 : decode cL_law 5 = .ok (.iconst 0, 1) := by decide +kernel
theorem dL_law_6 : decode cL_law 6 = .ok (.invokestatic 9, 3) := by decide +kernel
theorem dL_law_9 : decode cL_law 9 = .ok (.invokespecial 15, 3) := by decide +kernel
theorem dL_law_12 : decode cL_law 12 = .ok (.astore_n 1, 1) := by decide +kernel
theorem dL_law_13 : decode cL_law 13 = .ok (.new 18, 3) := by decide +kernel
theorem dL_law_16 : decode cL_law 16 = .ok (.dup, 1) := by decide +kernel
theorem dL_law_17 : decode cL_law 17 = .ok (.aload_n 0, 1) := by decide +kernel
theorem dL_law_18 : decode cL_law 18 = .ok (.iconst 0, 1) := by decide +kernel
theorem dL_law_19 : decode cL_law 19 = .ok (.invokestatic 9, 3) := by decide +kernel
theorem dL_law_22 : decode cL_law 22 = .ok (.invokespecial 20, 3) := by decide +kernel
theorem dL_law_25 : decode cL_law 25 = .ok (.astore_n 2, 1) := by decide +kernel
theorem dL_law_26 : decode cL_law 26 = .ok (.iconst 1, 1) := by decide +kernel
theorem dL_law_27 : decode cL_law 27 = .ok (.istore_n 3, 1) := by decide +kernel
theorem dL_law_28 : decode cL_law 28 = .ok (.iload_n 3, 1) := by decide +kernel
theorem dL_law_29 : decode cL_law 29 = .ok (.aload_n 0, 1) := by decide +kernel
theorem dL_law_30 : decode cL_law 30 = .ok (.arraylength, 1) := by decide +kernel
theorem dL_law_31 : decode cL_law 31 = .ok (.iconst 3, 1) := by decide +kernel
theorem dL_law_32 : decode cL_law 32 = .ok (.isub, 1) := by decide +kernel
theorem dL_law_33 : decode cL_law 33 = .ok (.if_icmp .gt 371, 3) := by decide +kernel
theorem dL_law_36 : decode cL_law 36 = .ok (.aload_n 0, 1) := by decide +kernel
theorem dL_law_37 : decode cL_law 37 = .ok (.iload_n 3, 1) := by decide +kernel
theorem dL_law_38 : decode cL_law 38 = .ok (.iaload, 1) := by decide +kernel
theorem dL_law_39 : decode cL_law 39 = .ok (.bipush 15, 2) := by decide +kernel
theorem dL_law_41 : decode cL_law 41 = .ok (.iand, 1) := by decide +kernel
theorem dL_law_42 : decode cL_law 42 = .ok (.tableswitch 356 0 11 #[62, 95, 128, 141, 154, 165, 188, 211, 224, 257, 290, 323], 62) := by decide +kernel
theorem dL_law_104 : decode cL_law 104 = .ok (.aload_n 1, 1) := by decide +kernel
theorem dL_law_105 : decode cL_law 105 = .ok (.aload_n 0, 1) := by decide +kernel
theorem dL_law_106 : decode cL_law 106 = .ok (.iload_n 3, 1) := by decide +kernel
theorem dL_law_107 : decode cL_law 107 = .ok (.iconst 1, 1) := by decide +kernel
theorem dL_law_108 : decode cL_law 108 = .ok (.iadd, 1) := by decide +kernel
theorem dL_law_109 : decode cL_law 109 = .ok (.iaload, 1) := by decide +kernel
theorem dL_law_110 : decode cL_law 110 = .ok (.aload_n 0, 1) := by decide +kernel
theorem dL_law_111 : decode cL_law 111 = .ok (.iload_n 3, 1) := by decide +kernel
theorem dL_law_112 : decode cL_law 112 = .ok (.iconst 2, 1) := by decide +kernel
theorem dL_law_113 : decode cL_law 113 = .ok (.iadd, 1) := by decide +kernel
theorem dL_law_114 : decode cL_law 114 = .ok (.iaload, 1) := by decide +kernel
theorem dL_law_115 : decode cL_law 115 = .ok (.invokevirtual 21, 3) := by decide +kernel
theorem dL_law_118 : decode cL_law 118 = .ok (.aload_n 2, 1) := by decide +kernel
theorem dL_law_119 : decode cL_law 119 = .ok (.aload_n 0, 1) := by decide +kernel
theorem dL_law_120 : decode cL_law 120 = .ok (.iload_n 3, 1) := by decide +kernel
theorem dL_law_121 : decode cL_law 121 = .ok (.iconst 1, 1) := by decide +kernel
theorem dL_law_122 : decode cL_law 122 = .ok (.iadd, 1) := by decide +kernel
theorem dL_law_123 : decode cL_law 123 = .ok (.iaload, 1) := by decide +kernel
theorem dL_law_124 : decode cL_law 124 = .ok (.aload_n 0, 1) := by decide +kernel
theorem dL_law_125 : decode cL_law 125 = .ok (.iload_n 3, 1) := by decide +kernel
theorem dL_law_126 : decode cL_law 126 = .ok (.iconst 2, 1) := by decide +kernel
theorem dL_law_127 : decode cL_law 127 = .ok (.iadd, 1) := by decide +kernel
theorem dL_law_128 : decode cL_law 128 = .ok (.iaload, 1) := by decide +kernel
theorem dL_law_129 : decode cL_law 129 = .ok (.invokevirtual 25, 3) := by decide +kernel
theorem dL_law_132 : decode cL_law 132 = .ok (.if_icmp .eq 266, 3) := by decide +kernel
theorem dL_law_135 : decode cL_law 135 = .ok (.iconst 0, 1) := by decide +kernel
theorem dL_law_136 : decode cL_law 136 = .ok (.ireturn, 1) := by decide +kernel
theorem dL_law_137 : decode cL_law 137 = .ok (.aload_n 1, 1) := by decide +kernel
theorem dL_law_138 : decode cL_law 138 = .ok (.aload_n 0, 1) := by decide +kernel
theorem dL_law_139 : decode cL_law 139 = .ok (.iload_n 3, 1) := by decide +kernel
theorem dL_law_140 : decode cL_law 140 = .ok (.iconst 1, 1) := by decide +kernel
theorem dL_law_141 : decode cL_law 141 = .ok (.iadd, 1) := by decide +kernel
theorem dL_law_142 : decode cL_law 142 = .ok (.iaload, 1) := by decide +kernel
theorem dL_law_143 : decode cL_law 143 = .ok (.aload_n 0, 1) := by decide +kernel
theorem dL_law_144 : decode cL_law 144 = .ok (.iload_n 3, 1) := by decide +kernel
theorem dL_law_145 : decode cL_law 145 = .ok (.iconst 2, 1) := by decide +kernel
theorem dL_law_146 : decode cL_law 146 = .ok (.iadd, 1) := by decide +kernel
theorem dL_law_147 : decode cL_law 147 = .ok (.iaload, 1) := by decide +kernel
theorem dL_law_148 : decode cL_law 148 = .ok (.invokevirtual 26, 3) := by decide +kernel
theorem dL_law_151 : decode cL_law 151 = .ok (.aload_n 2, 1) := by decide +kernel
theorem dL_law_152 : decode cL_law 152 = .ok (.aload_n 0, 1) := by decide +kernel
theorem dL_law_153 : decode cL_law 153 = .ok (.iload_n 3, 1) := by decide +kernel
theorem dL_law_154 : decode cL_law 154 = .ok (.iconst 1, 1) := by decide +kernel
theorem dL_law_155 : decode cL_law 155 = .ok (.iadd, 1) := by decide +kernel
theorem dL_law_156 : decode cL_law 156 = .ok (.iaload, 1) := by decide +kernel
theorem dL_law_157 : decode cL_law 157 = .ok (.aload_n 0, 1) := by decide +kernel
theorem dL_law_158 : decode cL_law 158 = .ok (.iload_n 3, 1) := by decide +kernel
theorem dL_law_159 : decode cL_law 159 = .ok (.iconst 2, 1) := by decide +kernel
theorem dL_law_160 : decode cL_law 160 = .ok (.iadd, 1) := by decide +kernel
theorem dL_law_161 : decode cL_law 161 = .ok (.iaload, 1) := by decide +kernel
theorem dL_law_162 : decode cL_law 162 = .ok (.invokevirtual 29, 3) := by decide +kernel
theorem dL_law_165 : decode cL_law 165 = .ok (.if_icmp .eq 233, 3) := by decide +kernel
theorem dL_law_168 : decode cL_law 168 = .ok (.iconst 0, 1) := by decide +kernel
theorem dL_law_169 : decode cL_law 169 = .ok (.ireturn, 1) := by decide +kernel
theorem dL_law_170 : decode cL_law 170 = .ok (.aload_n 1, 1) := by decide +kernel
theorem dL_law_171 : decode cL_law 171 = .ok (.invokevirtual 30, 3) := by decide +kernel
theorem dL_law_174 : decode cL_law 174 = .ok (.aload_n 2, 1) := by decide +kernel
theorem dL_law_175 : decode cL_law 175 = .ok (.invokevirtual 34, 3) := by decide +kernel
theorem dL_law_178 : decode cL_law 178 = .ok (.if_icmp .eq 220, 3) := by decide +kernel
theorem dL_law_181 : decode cL_law 181 = .ok (.iconst 0, 1) := by decide +kernel
theorem dL_law_182 : decode cL_law 182 = .ok (.ireturn, 1) := by decide +kernel
theorem dL_law_183 : decode cL_law 183 = .ok (.aload_n 1, 1) := by decide +kernel
theorem dL_law_184 : decode cL_law 184 = .ok (.invokevirtual 35, 3) := by decide +kernel
theorem dL_law_187 : decode cL_law 187 = .ok (.aload_n 2, 1) := by decide +kernel
theorem dL_law_188 : decode cL_law 188 = .ok (.invokevirtual 38, 3) := by decide +kernel
theorem dL_law_191 : decode cL_law 191 = .ok (.if_icmp .eq 207, 3) := by decide +kernel
theorem dL_law_194 : decode cL_law 194 = .ok (.iconst 0, 1) := by decide +kernel
theorem dL_law_195 : decode cL_law 195 = .ok (.ireturn, 1) := by decide +kernel
theorem dL_law_196 : decode cL_law 196 = .ok (.aload_n 1, 1) := by decide +kernel
theorem dL_law_197 : decode cL_law 197 = .ok (.invokevirtual 39, 3) := by decide +kernel
theorem dL_law_200 : decode cL_law 200 = .ok (.aload_n 2, 1) := by decide +kernel
theorem dL_law_201 : decode cL_law 201 = .ok (.invokevirtual 42, 3) := by decide +kernel
theorem dL_law_204 : decode cL_law 204 = .ok (.goto 194, 3) := by decide +kernel
theorem dL_law_207 : decode cL_law 207 = .ok (.aload_n 1, 1) := by decide +kernel
theorem dL_law_208 : decode cL_law 208 = .ok (.aload_n 0, 1) := by decide +kernel
theorem dL_law_209 : decode cL_law 209 = .ok (.iload_n 3, 1) := by decide +kernel
theorem dL_law_210 : decode cL_law 210 = .ok (.iconst 1, 1) := by decide +kernel
theorem dL_law_211 : decode cL_law 211 = .ok (.iadd, 1) := by decide +kernel
theorem dL_law_212 : decode cL_law 212 = .ok (.iaload, 1) := by decide +kernel
theorem dL_law_213 : decode cL_law 213 = .ok (.invokevirtual 43, 3) := by decide +kernel
theorem dL_law_216 : decode cL_law 216 = .ok (.aload_n 2, 1) := by decide +kernel
theorem dL_law_217 : decode cL_law 217 = .ok (.aload_n 0, 1) := by decide +kernel
theorem dL_law_218 : decode cL_law 218 = .ok (.iload_n 3, 1) := by decide +kernel
theorem dL_law_219 : decode cL_law 219 = .ok (.iconst 1, 1) := by decide +kernel
theorem dL_law_220 : decode cL_law 220 = .ok (.iadd, 1) := by decide +kernel
theorem dL_law_221 : decode cL_law 221 = .ok (.iaload, 1) := by decide +kernel
theorem dL_law_222 : decode cL_law 222 = .ok (.invokevirtual 47, 3) := by decide +kernel
theorem dL_law_225 : decode cL_law 225 = .ok (.if_icmp .eq 173, 3) := by decide +kernel
theorem dL_law_228 : decode cL_law 228 = .ok (.iconst 0, 1) := by decide +kernel
theorem dL_law_229 : decode cL_law 229 = .ok (.ireturn, 1) := by decide +kernel
theorem dL_law_230 : decode cL_law 230 = .ok (.aload_n 1, 1) := by decide +kernel
theorem dL_law_231 : decode cL_law 231 = .ok (.aload_n 0, 1) := by decide +kernel
theorem dL_law_232 : decode cL_law 232 = .ok (.iload_n 3, 1) := by decide +kernel
theorem dL_law_233 : decode cL_law 233 = .ok (.iconst 1, 1) := by decide +kernel
theorem dL_law_234 : decode cL_law 234 = .ok (.iadd, 1) := by decide +kernel
theorem dL_law_235 : decode cL_law 235 = .ok (.iaload, 1) := by decide +kernel
theorem dL_law_236 : decode cL_law 236 = .ok (.invokevirtual 48, 3) := by decide +kernel
theorem dL_law_239 : decode cL_law 239 = .ok (.aload_n 2, 1) := by decide +kernel
theorem dL_law_240 : decode cL_law 240 = .ok (.aload_n 0, 1) := by decide +kernel
theorem dL_law_241 : decode cL_law 241 = .ok (.iload_n 3, 1) := by decide +kernel
theorem dL_law_242 : decode cL_law 242 = .ok (.iconst 1, 1) := by decide +kernel
theorem dL_law_243 : decode cL_law 243 = .ok (.iadd, 1) := by decide +kernel
theorem dL_law_244 : decode cL_law 244 = .ok (.iaload, 1) := by decide +kernel
theorem dL_law_245 : decode cL_law 245 = .ok (.invokevirtual 51, 3) := by decide +kernel
theorem dL_law_248 : decode cL_law 248 = .ok (.if_icmp .eq 150, 3) := by decide +kernel
theorem dL_law_251 : decode cL_law 251 = .ok (.iconst 0, 1) := by decide +kernel
theorem dL_law_252 : decode cL_law 252 = .ok (.ireturn, 1) := by decide +kernel
theorem dL_law_253 : decode cL_law 253 = .ok (.aload_n 1, 1) := by decide +kernel
theorem dL_law_254 : decode cL_law 254 = .ok (.invokevirtual 52, 3) := by decide +kernel
theorem dL_law_257 : decode cL_law 257 = .ok (.aload_n 2, 1) := by decide +kernel
theorem dL_law_258 : decode cL_law 258 = .ok (.invokevirtual 55, 3) := by decide +kernel
theorem dL_law_261 : decode cL_law 261 = .ok (.if_icmp .eq 137, 3) := by decide +kernel
theorem dL_law_264 : decode cL_law 264 = .ok (.iconst 0, 1) := by decide +kernel
theorem dL_law_265 : decode cL_law 265 = .ok (.ireturn, 1) := by decide +kernel
theorem dL_law_266 : decode cL_law 266 = .ok (.aload_n 1, 1) := by decide +kernel
theorem dL_law_267 : decode cL_law 267 = .ok (.aload_n 0, 1) := by decide +kernel
theorem dL_law_268 : decode cL_law 268 = .ok (.iload_n 3, 1) := by decide +kernel
theorem dL_law_269 : decode cL_law 269 = .ok (.iconst 1, 1) := by decide +kernel
theorem dL_law_270 : decode cL_law 270 = .ok (.iadd, 1) := by decide +kernel
theorem dL_law_271 : decode cL_law 271 = .ok (.iaload, 1) := by decide +kernel
theorem dL_law_272 : decode cL_law 272 = .ok (.aload_n 0, 1) := by decide +kernel
theorem dL_law_273 : decode cL_law 273 = .ok (.iload_n 3, 1) := by decide +kernel
theorem dL_law_274 : decode cL_law 274 = .ok (.iconst 2, 1) := by decide +kernel
theorem dL_law_275 : decode cL_law 275 = .ok (.iadd, 1) := by decide +kernel
theorem dL_law_276 : decode cL_law 276 = .ok (.iaload, 1) := by decide +kernel
theorem dL_law_277 : decode cL_law 277 = .ok (.invokevirtual 56, 3) := by decide +kernel
theorem dL_law_280 : decode cL_law 280 = .ok (.aload_n 2, 1) := by decide +kernel
theorem dL_law_281 : decode cL_law 281 = .ok (.aload_n 0, 1) := by decide +kernel
theorem dL_law_282 : decode cL_law 282 = .ok (.iload_n 3, 1) := by decide +kernel
theorem dL_law_283 : decode cL_law 283 = .ok (.iconst 1, 1) := by decide +kernel
theorem dL_law_284 : decode cL_law 284 = .ok (.iadd, 1) := by decide +kernel
theorem dL_law_285 : decode cL_law 285 = .ok (.iaload, 1) := by decide +kernel
theorem dL_law_286 : decode cL_law 286 = .ok (.aload_n 0, 1) := by decide +kernel
theorem dL_law_287 : decode cL_law 287 = .ok (.iload_n 3, 1) := by decide +kernel
theorem dL_law_288 : decode cL_law 288 = .ok (.iconst 2, 1) := by decide +kernel
theorem dL_law_289 : decode cL_law 289 = .ok (.iadd, 1) := by decide +kernel
theorem dL_law_290 : decode cL_law 290 = .ok (.iaload, 1) := by decide +kernel
theorem dL_law_291 : decode cL_law 291 = .ok (.invokevirtual 59, 3) := by decide +kernel
theorem dL_law_294 : decode cL_law 294 = .ok (.if_icmp .eq 104, 3) := by decide +kernel
theorem dL_law_297 : decode cL_law 297 = .ok (.iconst 0, 1) := by decide +kernel
theorem dL_law_298 : decode cL_law 298 = .ok (.ireturn, 1) := by decide +kernel
theorem dL_law_299 : decode cL_law 299 = .ok (.aload_n 1, 1) := by decide +kernel
theorem dL_law_300 : decode cL_law 300 = .ok (.aload_n 0, 1) := by decide +kernel
theorem dL_law_301 : decode cL_law 301 = .ok (.iload_n 3, 1) := by decide +kernel
theorem dL_law_302 : decode cL_law 302 = .ok (.iconst 1, 1) := by decide +kernel
theorem dL_law_303 : decode cL_law 303 = .ok (.iadd, 1) := by decide +kernel
theorem dL_law_304 : decode cL_law 304 = .ok (.iaload, 1) := by decide +kernel
theorem dL_law_305 : decode cL_law 305 = .ok (.aload_n 0, 1) := by decide +kernel
theorem dL_law_306 : decode cL_law 306 = .ok (.iload_n 3, 1) := by decide +kernel
theorem dL_law_307 : decode cL_law 307 = .ok (.iconst 2, 1) := by decide +kernel
theorem dL_law_308 : decode cL_law 308 = .ok (.iadd, 1) := by decide +kernel
theorem dL_law_309 : decode cL_law 309 = .ok (.iaload, 1) := by decide +kernel
theorem dL_law_310 : decode cL_law 310 = .ok (.invokevirtual 60, 3) := by decide +kernel
theorem dL_law_313 : decode cL_law 313 = .ok (.aload_n 2, 1) := by decide +kernel
theorem dL_law_314 : decode cL_law 314 = .ok (.aload_n 0, 1) := by decide +kernel
theorem dL_law_315 : decode cL_law 315 = .ok (.iload_n 3, 1) := by decide +kernel
theorem dL_law_316 : decode cL_law 316 = .ok (.iconst 1, 1) := by decide +kernel
theorem dL_law_317 : decode cL_law 317 = .ok (.iadd, 1) := by decide +kernel
theorem dL_law_318 : decode cL_law 318 = .ok (.iaload, 1) := by decide +kernel
theorem dL_law_319 : decode cL_law 319 = .ok (.aload_n 0, 1) := by decide +kernel
theorem dL_law_320 : decode cL_law 320 = .ok (.iload_n 3, 1) := by decide +kernel
theorem dL_law_321 : decode cL_law 321 = .ok (.iconst 2, 1) := by decide +kernel
theorem dL_law_322 : decode cL_law 322 = .ok (.iadd, 1) := by decide +kernel
theorem dL_law_323 : decode cL_law 323 = .ok (.iaload, 1) := by decide +kernel
theorem dL_law_324 : decode cL_law 324 = .ok (.invokevirtual 63, 3) := by decide +kernel
theorem dL_law_327 : decode cL_law 327 = .ok (.if_icmp .eq 71, 3) := by decide +kernel
theorem dL_law_330 : decode cL_law 330 = .ok (.iconst 0, 1) := by decide +kernel
theorem dL_law_331 : decode cL_law 331 = .ok (.ireturn, 1) := by decide +kernel
theorem dL_law_332 : decode cL_law 332 = .ok (.aload_n 1, 1) := by decide +kernel
theorem dL_law_333 : decode cL_law 333 = .ok (.aload_n 0, 1) := by decide +kernel
theorem dL_law_334 : decode cL_law 334 = .ok (.iload_n 3, 1) := by decide +kernel
theorem dL_law_335 : decode cL_law 335 = .ok (.iconst 1, 1) := by decide +kernel
theorem dL_law_336 : decode cL_law 336 = .ok (.iadd, 1) := by decide +kernel
theorem dL_law_337 : decode cL_law 337 = .ok (.iaload, 1) := by decide +kernel
theorem dL_law_338 : decode cL_law 338 = .ok (.aload_n 0, 1) := by decide +kernel
theorem dL_law_339 : decode cL_law 339 = .ok (.iload_n 3, 1) := by decide +kernel
theorem dL_law_340 : decode cL_law 340 = .ok (.iconst 2, 1) := by decide +kernel
theorem dL_law_341 : decode cL_law 341 = .ok (.iadd, 1) := by decide +kernel
theorem dL_law_342 : decode cL_law 342 = .ok (.iaload, 1) := by decide +kernel
theorem dL_law_343 : decode cL_law 343 = .ok (.invokevirtual 64, 3) := by decide +kernel
theorem dL_law_346 : decode cL_law 346 = .ok (.aload_n 2, 1) := by decide +kernel
theorem dL_law_347 : decode cL_law 347 = .ok (.aload_n 0, 1) := by decide +kernel
theorem dL_law_348 : decode cL_law 348 = .ok (.iload_n 3, 1) := by decide +kernel
theorem dL_law_349 : decode cL_law 349 = .ok (.iconst 1, 1) := by decide +kernel
theorem dL_law_350 : decode cL_law 350 = .ok (.iadd, 1) := by decide +kernel
theorem dL_law_351 : decode cL_law 351 = .ok (.iaload, 1) := by decide +kernel
theorem dL_law_352 : decode cL_law 352 = .ok (.aload_n 0, 1) := by decide +kernel
theorem dL_law_353 : decode cL_law 353 = .ok (.iload_n 3, 1) := by decide +kernel
theorem dL_law_354 : decode cL_law 354 = .ok (.iconst 2, 1) := by decide +kernel
theorem dL_law_355 : decode cL_law 355 = .ok (.iadd, 1) := by decide +kernel
theorem dL_law_356 : decode cL_law 356 = .ok (.iaload, 1) := by decide +kernel
theorem dL_law_357 : decode cL_law 357 = .ok (.invokevirtual 67, 3) := by decide +kernel
theorem dL_law_360 : decode cL_law 360 = .ok (.if_icmp .eq 38, 3) := by decide +kernel
theorem dL_law_363 : decode cL_law 363 = .ok (.iconst 0, 1) := by decide +kernel
theorem dL_law_364 : decode cL_law 364 = .ok (.ireturn, 1) := by decide +kernel
theorem dL_law_365 : decode cL_law 365 = .ok (.aload_n 1, 1) := by decide +kernel
theorem dL_law_366 : decode cL_law 366 = .ok (.aload_n 0, 1) := by decide +kernel
theorem dL_law_367 : decode cL_law 367 = .ok (.iload_n 3, 1) := by decide +kernel
theorem dL_law_368 : decode cL_law 368 = .ok (.iconst 1, 1) := by decide +kernel
theorem dL_law_369 : decode cL_law 369 = .ok (.iadd, 1) := by decide +kernel
theorem dL_law_370 : decode cL_law 370 = .ok (.iaload, 1) := by decide +kernel
theorem dL_law_371 : decode cL_law 371 = .ok (.aload_n 0, 1) := by decide +kernel
theorem dL_law_372 : decode cL_law 372 = .ok (.iload_n 3, 1) := by decide +kernel
theorem dL_law_373 : decode cL_law 373 = .ok (.iconst 2, 1) := by decide +kernel
theorem dL_law_374 : decode cL_law 374 = .ok (.iadd, 1) := by decide +kernel
theorem dL_law_375 : decode cL_law 375 = .ok (.iaload, 1) := by decide +kernel
theorem dL_law_376 : decode cL_law 376 = .ok (.invokevirtual 68, 3) := by decide +kernel
theorem dL_law_379 : decode cL_law 379 = .ok (.aload_n 2, 1) := by decide +kernel
theorem dL_law_380 : decode cL_law 380 = .ok (.aload_n 0, 1) := by decide +kernel
theorem dL_law_381 : decode cL_law 381 = .ok (.iload_n 3, 1) := by decide +kernel
theorem dL_law_382 : decode cL_law 382 = .ok (.iconst 1, 1) := by decide +kernel
theorem dL_law_383 : decode cL_law 383 = .ok (.iadd, 1) := by decide +kernel
theorem dL_law_384 : decode cL_law 384 = .ok (.iaload, 1) := by decide +kernel
theorem dL_law_385 : decode cL_law 385 = .ok (.aload_n 0, 1) := by decide +kernel
theorem dL_law_386 : decode cL_law 386 = .ok (.iload_n 3, 1) := by decide +kernel
theorem dL_law_387 : decode cL_law 387 = .ok (.iconst 2, 1) := by decide +kernel
theorem dL_law_388 : decode cL_law 388 = .ok (.iadd, 1) := by decide +kernel
theorem dL_law_389 : decode cL_law 389 = .ok (.iaload, 1) := by decide +kernel
theorem dL_law_390 : decode cL_law 390 = .ok (.invokevirtual 71, 3) := by decide +kernel
theorem dL_law_393 : decode cL_law 393 = .ok (.if_icmp .eq 5, 3) := by decide +kernel
theorem dL_law_396 : decode cL_law 396 = .ok (.iconst 0, 1) := by decide +kernel
theorem dL_law_397 : decode cL_law 397 = .ok (.ireturn, 1) := by decide +kernel
theorem dL_law_398 : decode cL_law 398 = .ok (.iinc 3 3, 3) := by decide +kernel
theorem dL_law_401 : decode cL_law 401 = .ok (.goto (-373), 3) := by decide +kernel
theorem dL_law_404 : decode cL_law 404 = .ok (.iconst 1, 1) := by decide +kernel
theorem dL_law_405 : decode cL_law 405 = .ok (.ireturn, 1) := by decide +kernel

theorem q88 : (Jvm.Cond.arrayClass Jvm.ClassFile.FieldType.int) ∈ lw_all := lw_g (lw_at lw_m1 63 rfl) rfl
set_option maxRecDepth 100000
end
section
/-! BASE: worlds of the two objects, contracts in one form, and rows that walk them -/
abbrev vwCl : List vw_C := [(RX1, TX1, 17), (RX2, TX2, 11)]
/-- the cells of a HistogramTree: ad 0 the object, ad 1 .. ad 10 its arrays -/
abbrev ht_X (ad : Nat → Nat) (dA : ClassId) (lz cn tn bf bb : Int32) (bt bo : Int64) (F T SF SB LV NR RE ND CR CS : Nat → Int32) : va_W :=
  [(ad 0, .inr (0, [.int lz, .int cn, .ref (ad 1), .ref (ad 2), .int tn, .ref (ad 3), .ref (ad 4), .ref (ad 5), .ref (ad 6), .ref (ad 7), .ref (ad 8), .ref (ad 9), .ref (ad 10), .int bf, .int bb, .long bt, .long bo])),
   (ad 1, .inl (dA, 24, .inl F)), (ad 2, .inl (dA, 24, .inl T)), (ad 3, .inl (dA, 28, .inl SF)), (ad 4, .inl (dA, 28, .inl SB)), (ad 5, .inl (dA, 28, .inl LV)), (ad 6, .inl (dA, 28, .inl NR)),
   (ad 7, .inl (dA, 24, .inl RE)), (ad 8, .inl (dA, 24, .inl ND)), (ad 9, .inl (dA, 168, .inl CR)), (ad 10, .inl (dA, 168, .inl CS))]
/-- the cells of a HistogramTreeModel -/
abbrev ht_M (ad : Nat → Nat) (dA : ClassId) (lz cn tn : Int32) (F T SF SB LV NR RE ND : Nat → Int32) : va_W :=
  [(ad 0, .inr (1, [.int lz, .int cn, .ref (ad 1), .ref (ad 2), .int tn, .ref (ad 3), .ref (ad 4), .ref (ad 5), .ref (ad 6), .ref (ad 7), .ref (ad 8)])),
   (ad 1, .inl (dA, 24, .inl F)), (ad 2, .inl (dA, 24, .inl T)), (ad 3, .inl (dA, 28, .inl SF)), (ad 4, .inl (dA, 28, .inl SB)), (ad 5, .inl (dA, 28, .inl LV)), (ad 6, .inl (dA, 28, .inl NR)),
   (ad 7, .inl (dA, 24, .inl RE)), (ad 8, .inl (dA, 24, .inl ND))]
/-- the heap holds w, apart and in A; outside A nothing has changed since H0 -/
def ht_I (D : va_G) (A : Nat → Prop) (H0 : Heap) (w : va_W) (H : Heap) (locs : List Loc) : Prop := va_P D vwCl w H ∧ va_D A w ∧ va_S A H0 H locs
abbrev ht_Rm (fr lo : Nat) : Room := { frames := fr, cells := 0, slots := 0, locals := lo }
abbrev ht_Pre (D : va_G) (dA : ClassId) (w : va_W) (sz : Nat) (U : State) : Prop := U.heap.size = sz ∧ va_P D vwCl w U.heap ∧ va_K D vwCl [(dA, .int)] U ∧ va_D (fun _ => True) w
abbrev ht_Po (D : va_G) (dA : ClassId) (A : Nat → Prop) (w : va_W) (t : State) : Prop := va_P D vwCl w t.heap ∧ va_K D vwCl [(dA, .int)] t ∧ va_D A w
/-- a contract: from the world w the method answers an int r and leaves the world w2 u, with post r u -/
def ht_MI (l : Launch) (D : va_G) (dA : ClassId) (y : MethodName) (ws : List Cond) (fr lo : Nat) (av : List Value) (w : va_W) {S : Type} (post : Int32 → S → Prop) (w2 : S → va_W) : Prop :=
  ∀ sz : Nat, Met l y ws (ht_Rm fr lo) (va_Pc av (ht_Pre D dA w sz)) (va_Qi post (fun u t => ht_Po D dA (va_A w sz) (w2 u) t) (va_A w sz)) 0 0 (va_A w sz)
def ht_ML (l : Launch) (D : va_G) (dA : ClassId) (y : MethodName) (ws : List Cond) (fr lo : Nat) (av : List Value) (w : va_W) {S : Type} (post : Int64 → S → Prop) (w2 : S → va_W) : Prop :=
  ∀ sz : Nat, Met l y ws (ht_Rm fr lo) (va_Pc av (ht_Pre D dA w sz)) (va_Ql post (fun u t => ht_Po D dA (va_A w sz) (w2 u) t) (va_A w sz)) 0 0 (va_A w sz)
def ht_MV (l : Launch) (D : va_G) (dA : ClassId) (y : MethodName) (ws : List Cond) (fr lo : Nat) (av : List Value) (w : va_W) {S : Type} (post : S → Prop) (w2 : S → va_W) : Prop :=
  ∀ sz : Nat, Met l y ws (ht_Rm fr lo) (va_Pc av (ht_Pre D dA w sz)) (va_Qv post (fun u t => ht_Po D dA (va_A w sz) (w2 u) t) (va_A w sz)) 0 0 (va_A w sz)
theorem ht_T1 (k : Nat) : (TX1 k).1 = RX1 := by
  unfold TX1
  split <;> rfl
theorem ht_T2 (k : Nat) : (TX2 k).1 = RX2 := by
  unfold TX2
  split <;> rfl
theorem ht_fm {α β : Type} {g : α → Option β} {is : List α} {w : List β} (h : is.map g = w.map some) : is.filterMap g = w := by
  have h1 : is.filterMap g = (is.map g).filterMap id := by rw [List.filterMap_map]; rfl
  rw [h1, h, List.filterMap_map]
  exact List.filterMap_some
section
variable {l : Launch} {D : va_G} {dA : ClassId} {y : MethodName} {cc : ByteArray} {nL : Nat} {rt : Option FieldType} {fr lo : Nat} {av : List Value} {w : va_W} {S : Type} {w2 : S → va_W}
/-- what a method's body is given at its entry -/
def ht_Body (l : Launch) (D : va_G) (dA : ClassId) (y : MethodName) (cc : ByteArray) (nL : Nat) (rt : Option FieldType) (fr lo : Nat) (av : List Value) (w : va_W) (Qc : (Nat → Prop) → Array Value → State → Outcome → State → Prop) : Prop :=
  ∀ (p : Program) (e : Env) (s : State) (m : MethodId) (below : List Frame) (meth : Method) (c : Code) (A : Nat → Prop), p.tables.exec = Jvm.exec → c.code = cc → meth.sig.returnType = rt → meth.locks = false → c.maxLocals = nL →
    s.vm.findClass y.cls = some m.cls → (∀ w ∈ lw_all, w.before av.toArray s = true) → va_K D vwCl [(dA, .int)] s → (∀ q : Nat, s.heap.size ≤ q → A q) → ht_I D A s.heap w s.heap [] → ∀ ls : Array Slot, lv_has ls nL (lv_args 0 av) →
    W p l e (ht_Rm fr lo) s m av.toArray below meth c s.heap [] 0 0 (MQ below (Qc A) av.toArray s 0 0 A) (F0 m 0 ls [])
theorem ht_of {Qc : (Nat → Prop) → Array Value → State → Outcome → State → Prop} (hy : plainName y.cls = true) (hav : (lg_sl av).length ≤ nL) (body : ht_Body l D dA y cc nL rt fr lo av w Qc) (sz : Nat) :
    Met l y (ws_ y cc nL rt) (ht_Rm fr lo) (va_Pc av (ht_Pre D dA w sz)) (Qc (va_A w sz)) 0 0 (va_A w sz) := by
  refine Met.ofW (cc := cc) (maxL := nL) (ret := rt) hy rfl ?_
  intro p e s m args below meth c s₁ B hml hv
  obtain ⟨rfl, hsz, hP, hK, hD0⟩ := hv
  have hts0 := atoms_spec (ws := ws_ y cc nL rt) B.pre
  have hts : ∀ w ∈ lw_all, w.before _ s = true := fun w h => hts0 w (List.mem_cons_of_mem _ h)
  have hl := lv_entry av (n := nL) hav
  rw [lg_entry_eq]
  generalize (lg_sl av ++ List.replicate (nL - (lg_sl av).length) Slot.unset).toArray = ls at hl ⊢
  subst hsz
  exact body p e s m below meth c (va_A w s.heap.size) B.exec B.bytes B.returns B.notSynchronized hml (findClass_of_methodNamed B.named) hts hK (fun q h => Or.inr h) ⟨hP, hD0.self, va_S.rf⟩ ls hl
theorem ht_MI_of {post : Int32 → S → Prop} (hy : plainName y.cls = true) (hav : (lg_sl av).length ≤ nL) (body : ht_Body l D dA y cc nL rt fr lo av w (fun A => va_Qi post (fun u t => ht_Po D dA A (w2 u) t) A)) : ht_MI l D dA y (ws_ y cc nL rt) fr lo av w post w2 := ht_of hy hav body
theorem ht_ML_of {post : Int64 → S → Prop} (hy : plainName y.cls = true) (hav : (lg_sl av).length ≤ nL) (body : ht_Body l D dA y cc nL rt fr lo av w (fun A => va_Ql post (fun u t => ht_Po D dA A (w2 u) t) A)) : ht_ML l D dA y (ws_ y cc nL rt) fr lo av w post w2 := ht_of hy hav body
theorem ht_MV_of {post : S → Prop} (hy : plainName y.cls = true) (hav : (lg_sl av).length ≤ nL) (body : ht_Body l D dA y cc nL rt fr lo av w (fun A => va_Qv post (fun u t => ht_Po D dA A (w2 u) t) A)) : ht_MV l D dA y (ws_ y cc nL rt) fr lo av w post w2 := ht_of hy hav body
end
section
variable {p : Program} {l : Launch} {e : Env} {R : Room} {s : State} {m : MethodId} {args : Array Value} {below : List Frame} {meth : Method} {c : Code} {H : Heap} {locs : List Loc} {cells slots : Nat} {Q : State → Prop}
variable {cc : ByteArray} {pc : Nat} {ls : Array Slot} {rest : List Value} {D : va_G} {dA : ClassId} {A : Nat → Prop} {H0 : Heap} {w w3 : va_W} {S : Type} {w2 : S → va_W}
theorem ht_iret {post : Int32 → S → Prop} {v : Int32} (hx : p.tables.exec = Jvm.exec) (hb : c.code = cc) (hr : meth.sig.returnType = some .int) (hlk : meth.locks = false) (hK : va_K D vwCl [(dA, .int)] s) (I : ht_I D A s.heap w H locs) (u : S) (hp : post v u) (hw : w = w2 u) (hdg : decode cc pc = .ok (.ireturn, 1)) :
    W p l e R s m args below meth c H locs cells slots (MQ below (va_Qi post (fun u t => ht_Po D dA A (w2 u) t) A) args s cells slots A) (F0 m pc ls [.int v]) :=
  W.iret hx hb hr (fun t ht hW => ⟨⟨v, u, rfl, hp, by rw [ht, ← hw]; exact I.1, va_K.moved hW.alike hK, by rw [← hw]; exact I.2.1⟩, I.2.2.F ht⟩) I.2.2.2.2 hdg hlk
theorem ht_zret {post : Int32 → S → Prop} {v : Int32} (hx : p.tables.exec = Jvm.exec) (hb : c.code = cc) (hr : meth.sig.returnType = some .boolean) (hn : narrow .boolean (.int v) = .int v) (hlk : meth.locks = false) (hK : va_K D vwCl [(dA, .int)] s) (I : ht_I D A s.heap w H locs) (u : S) (hp : post v u) (hw : w = w2 u) (hdg : decode cc pc = .ok (.ireturn, 1)) :
    W p l e R s m args below meth c H locs cells slots (MQ below (va_Qi post (fun u t => ht_Po D dA A (w2 u) t) A) args s cells slots A) (F0 m pc ls [.int v]) :=
  W.zret hx hb hr hn (fun t ht hW => ⟨⟨v, u, rfl, hp, by rw [ht, ← hw]; exact I.1, va_K.moved hW.alike hK, by rw [← hw]; exact I.2.1⟩, I.2.2.F ht⟩) I.2.2.2.2 hdg hlk
theorem ht_lret {post : Int64 → S → Prop} {v : Int64} (hx : p.tables.exec = Jvm.exec) (hb : c.code = cc) (hr : meth.sig.returnType = some .long) (hlk : meth.locks = false) (hK : va_K D vwCl [(dA, .int)] s) (I : ht_I D A s.heap w H locs) (u : S) (hp : post v u) (hw : w = w2 u) (hdg : decode cc pc = .ok (.lreturn, 1)) :
    W p l e R s m args below meth c H locs cells slots (MQ below (va_Ql post (fun u t => ht_Po D dA A (w2 u) t) A) args s cells slots A) (F0 m pc ls [.long v]) :=
  W.lret hx hb hr (fun t ht hW => ⟨⟨v, u, rfl, hp, by rw [ht, ← hw]; exact I.1, va_K.moved hW.alike hK, by rw [← hw]; exact I.2.1⟩, I.2.2.F ht⟩) I.2.2.2.2 hdg hlk
theorem ht_vret {post : S → Prop} (hx : p.tables.exec = Jvm.exec) (hb : c.code = cc) (hr : meth.sig.returnType = none) (hlk : meth.locks = false) (hK : va_K D vwCl [(dA, .int)] s) (I : ht_I D A s.heap w H locs) (u : S) (hp : post u) (hw : w = w2 u) (hdg : decode cc pc = .ok (.return_, 1)) :
    W p l e R s m args below meth c H locs cells slots (MQ below (va_Qv post (fun u t => ht_Po D dA A (w2 u) t) A) args s cells slots A) (F0 m pc ls []) :=
  W.vret hx hb hr (fun t ht hW => ⟨⟨u, rfl, hp, by rw [ht, ← hw]; exact I.1, va_K.moved hW.alike hK, by rw [← hw]; exact I.2.1⟩, I.2.2.F ht⟩) I.2.2.2.2 hdg hlk
/-- the top of the stack, by an equation -/
theorem ht_ti {x y : Int32} (h : x = y) (k : W p l e R s m args below meth c H locs cells slots Q (F0 m pc ls (.int y :: rest))) : W p l e R s m args below meth c H locs cells slots Q (F0 m pc ls (.int x :: rest)) := by
  cases h
  exact k
theorem ht_tl {x y : Int64} (h : x = y) (k : W p l e R s m args below meth c H locs cells slots Q (F0 m pc ls (.long y :: rest))) : W p l e R s m args below meth c H locs cells slots Q (F0 m pc ls (.long x :: rest)) := by
  cases h
  exact k
/-- the world, by an equation -/
theorem ht_I.to (I : ht_I D A H0 w H locs) (h : w = w3) : ht_I D A H0 w3 H locs := by
  cases h
  exact I
theorem ht_ald (hx : p.tables.exec = Jvm.exec) (hb : c.code = cc) (hK : va_K D vwCl [(dA, .int)] s) (I : ht_I D A H0 w H locs) (q0 : Nat) {a n : Nat} {f : Nat → Int32} (ha : w[q0]? = some (a, .inl (dA, n, .inl f))) {j : Nat} (hj : j < n) (hdg : decode cc pc = .ok (.iaload, 1))
    (kk : W p l e R s m args below meth c H locs cells slots Q (F0 m (pc + 1) ls (.int (f j) :: rest))) (hn : n < 2 ^ 31 := by decide) : W p l e R s m args below meth c H locs cells slots Q (F0 m pc ls (.int (nI j) :: .ref a :: rest)) := by
  refine va_iald hx hb hK I.1 q0 0 ha rfl (vp_in_nI hj hn) hdg ?_
  rw [nI_clamp (Nat.lt_trans hj hn)]
  exact kk
theorem ht_ast (hx : p.tables.exec = Jvm.exec) (hb : c.code = cc) (hK : va_K D vwCl [(dA, .int)] s) (I : ht_I D A H0 w H locs) (q0 : Nat) {a n : Nat} {f : Nat → Int32} (ha : w[q0]? = some (a, .inl (dA, n, .inl f))) {j : Nat} {x : Int32} (hj : j < n) (hw : w.set q0 (a, .inl (dA, n, .inl (upd f j x))) = w3) (hdg : decode cc pc = .ok (.iastore, 1))
    (kk : ∀ (H1 : Heap) (locs1 : List Loc), ht_I D A H0 w3 H1 locs1 → W p l e R s m args below meth c H1 locs1 cells slots Q (F0 m (pc + 1) ls rest)) (hn : n < 2 ^ 31 := by decide) : W p l e R s m args below meth c H locs cells slots Q (F0 m pc ls (.int x :: .int (nI j) :: .ref a :: rest)) := by
  refine va_iast hx hb hK I.1 I.2.1 I.2.2 q0 0 ha rfl (vp_in_nI hj hn) hdg (fun H1 locs1 h1 h2 h3 => ?_)
  rw [nI_clamp (Nat.lt_trans hj hn)] at h1 h2
  subst hw
  exact kk H1 locs1 ⟨h1, h2, h3⟩
theorem ht_getX (hx : p.tables.exec = Jvm.exec) (hb : c.code = cc) (hts : ∀ w ∈ lw_all, w.before args s = true) (hown : s.vm.findClass RX1 = some m.cls) (hK : va_K D vwCl [(dA, .int)] s) (I : ht_I D A H0 w H locs) (k : Nat) (hk : k < 17) {index a : Nat} {fs : List Value} {v : Value}
    (hlink : Cond.fieldLink RX1 index RX1 (TX1 k).2.1 (TX1 k).2.2.1 ∈ lw_all) (he : w[0]? = some (a, .inr (0, fs))) (hv : fs[k]? = some v) (hdg : decode cc pc = .ok (.getfield index, 3))
    (kk : W p l e R s m args below meth c H locs cells slots Q (F0 m (pc + 3) ls (v :: rest))) : W p l e R s m args below meth c H locs cells slots Q (F0 m pc ls (.ref a :: rest)) :=
  va_get (D := D) (ci := 0) (C := RX1) (T := TX1) (N := 17) (ref := RX1) hx hb hts in_X1 hown hK I.1 0 he rfl k hk (hts _ hlink) (fun x h => by rw [ht_T1] at h; exact h) hv hdg kk
theorem ht_getM (hx : p.tables.exec = Jvm.exec) (hb : c.code = cc) (hts : ∀ w ∈ lw_all, w.before args s = true) (hown : s.vm.findClass RX2 = some m.cls) (hK : va_K D vwCl [(dA, .int)] s) (I : ht_I D A H0 w H locs) (k : Nat) (hk : k < 11) {index a : Nat} {fs : List Value} {v : Value}
    (hlink : Cond.fieldLink RX2 index RX2 (TX2 k).2.1 (TX2 k).2.2.1 ∈ lw_all) (he : w[0]? = some (a, .inr (1, fs))) (hv : fs[k]? = some v) (hdg : decode cc pc = .ok (.getfield index, 3))
    (kk : W p l e R s m args below meth c H locs cells slots Q (F0 m (pc + 3) ls (v :: rest))) : W p l e R s m args below meth c H locs cells slots Q (F0 m pc ls (.ref a :: rest)) :=
  va_get (D := D) (ci := 1) (C := RX2) (T := TX2) (N := 11) (ref := RX2) hx hb hts in_X2 hown hK I.1 0 he rfl k hk (hts _ hlink) (fun x h => by rw [ht_T2] at h; exact h) hv hdg kk
theorem ht_putX (hx : p.tables.exec = Jvm.exec) (hb : c.code = cc) (hts : ∀ w ∈ lw_all, w.before args s = true) (hown : s.vm.findClass RX1 = some m.cls) (hK : va_K D vwCl [(dA, .int)] s) (I : ht_I D A H0 w H locs) (k : Nat) (hk : k < 17) {index a : Nat} {fs : List Value} {v : Value} {ty : FieldType}
    (hlink : Cond.fieldLink RX1 index RX1 (TX1 k).2.1 (TX1 k).2.2.1 ∈ lw_all) (hfin : (TX1 k).2.2.2 = false) (hd : parseFieldDescriptor (TX1 k).2.2.1 = some ty) (hn : narrow ty v = v) (hfit : fits ty v = true) (he : w[0]? = some (a, .inr (0, fs))) (hl : k < fs.length) (hw : w.set 0 (a, .inr (0, fs.set k v)) = w3) (hdg : decode cc pc = .ok (.putfield index, 3))
    (kk : ∀ (H1 : Heap) (locs1 : List Loc), ht_I D A H0 w3 H1 locs1 → W p l e R s m args below meth c H1 locs1 cells slots Q (F0 m (pc + 3) ls rest)) : W p l e R s m args below meth c H locs cells slots Q (F0 m pc ls (v :: .ref a :: rest)) := by
  subst hw
  exact va_put (D := D) (ci := 0) (C := RX1) (T := TX1) (N := 17) (ref := RX1) hx hb hts in_X1 tyX1 tyX1_ok nmX1 hown hK I.1 I.2.1 I.2.2 0 he rfl k hk (hts _ hlink) (fun x h => by rw [ht_T1] at h; exact h) hfin hd hn hfit hl hdg (fun H1 locs1 h1 h2 h3 => kk H1 locs1 ⟨h1, h2, h3⟩)
theorem ht_putM (hx : p.tables.exec = Jvm.exec) (hb : c.code = cc) (hts : ∀ w ∈ lw_all, w.before args s = true) (hown : s.vm.findClass RX2 = some m.cls) (hK : va_K D vwCl [(dA, .int)] s) (I : ht_I D A H0 w H locs) (k : Nat) (hk : k < 11) {index a : Nat} {fs : List Value} {v : Value} {ty : FieldType}
    (hlink : Cond.fieldLink RX2 index RX2 (TX2 k).2.1 (TX2 k).2.2.1 ∈ lw_all) (hfin : (TX2 k).2.2.2 = false) (hd : parseFieldDescriptor (TX2 k).2.2.1 = some ty) (hn : narrow ty v = v) (hfit : fits ty v = true) (he : w[0]? = some (a, .inr (1, fs))) (hl : k < fs.length) (hw : w.set 0 (a, .inr (1, fs.set k v)) = w3) (hdg : decode cc pc = .ok (.putfield index, 3))
    (kk : ∀ (H1 : Heap) (locs1 : List Loc), ht_I D A H0 w3 H1 locs1 → W p l e R s m args below meth c H1 locs1 cells slots Q (F0 m (pc + 3) ls rest)) : W p l e R s m args below meth c H locs cells slots Q (F0 m pc ls (v :: .ref a :: rest)) := by
  subst hw
  exact va_put (D := D) (ci := 1) (C := RX2) (T := TX2) (N := 11) (ref := RX2) hx hb hts in_X2 tyX2 tyX2_ok nmX2 hown hK I.1 I.2.1 I.2.2 0 he rfl k hk (hts _ hlink) (fun x h => by rw [ht_T2] at h; exact h) hfin hd hn hfit hl hdg (fun H1 locs1 h1 h2 h3 => kk H1 locs1 ⟨h1, h2, h3⟩)
/-- compares of small numbers -/
theorem ht_ge {a b : Nat} {off : Int} {tgt : Nat} (hx : p.tables.exec = Jvm.exec) (hb : c.code = cc) (hdg : decode cc pc = .ok (.if_icmp .ge off, 3)) (ht : (pc : Int) + off = (tgt : Int)) (ha : a < 2 ^ 31) (hb2 : b < 2 ^ 31)
    (kt : b ≤ a → W p l e R s m args below meth c H locs cells slots Q (F0 m tgt ls rest)) (kf : a < b → W p l e R s m args below meth c H locs cells slots Q (F0 m (pc + 3) ls rest)) : W p l e R s m args below meth c H locs cells slots Q (F0 m pc ls (.int (nI b) :: .int (nI a) :: rest)) :=
  lv_icmp_ge hx hb hdg ht (fun h => kt ((nI_leI hb2 ha).mp h)) (fun h => kf (Nat.lt_of_not_le (fun q => h ((nI_leI hb2 ha).mpr q))))
theorem ht_lt {a b : Nat} {off : Int} {tgt : Nat} (hx : p.tables.exec = Jvm.exec) (hb : c.code = cc) (hdg : decode cc pc = .ok (.if_icmp .lt off, 3)) (ht : (pc : Int) + off = (tgt : Int)) (ha : a < 2 ^ 31) (hb2 : b < 2 ^ 31)
    (kt : a < b → W p l e R s m args below meth c H locs cells slots Q (F0 m tgt ls rest)) (kf : b ≤ a → W p l e R s m args below meth c H locs cells slots Q (F0 m (pc + 3) ls rest)) : W p l e R s m args below meth c H locs cells slots Q (F0 m pc ls (.int (nI b) :: .int (nI a) :: rest)) :=
  lv_icmp_lt hx hb hdg ht (fun h => kt ((nI_ltI ha hb2).mp h)) (fun h => kf (Nat.le_of_not_lt (fun q => h ((nI_ltI ha hb2).mpr q))))
theorem ht_gt {a b : Nat} {off : Int} {tgt : Nat} (hx : p.tables.exec = Jvm.exec) (hb : c.code = cc) (hdg : decode cc pc = .ok (.if_icmp .gt off, 3)) (ht : (pc : Int) + off = (tgt : Int)) (ha : a < 2 ^ 31) (hb2 : b < 2 ^ 31)
    (kt : b < a → W p l e R s m args below meth c H locs cells slots Q (F0 m tgt ls rest)) (kf : a ≤ b → W p l e R s m args below meth c H locs cells slots Q (F0 m (pc + 3) ls rest)) : W p l e R s m args below meth c H locs cells slots Q (F0 m pc ls (.int (nI b) :: .int (nI a) :: rest)) :=
  lv_icmp_gt hx hb hdg ht (fun h => kt ((nI_ltI hb2 ha).mp h)) (fun h => kf (Nat.le_of_not_lt (fun q => h ((nI_ltI hb2 ha).mpr q))))
theorem ht_ne {a b : Nat} {off : Int} {tgt : Nat} (hx : p.tables.exec = Jvm.exec) (hb : c.code = cc) (hdg : decode cc pc = .ok (.if_icmp .ne off, 3)) (ht : (pc : Int) + off = (tgt : Int)) (ha : a < 2 ^ 31) (hb2 : b < 2 ^ 31)
    (kt : a ≠ b → W p l e R s m args below meth c H locs cells slots Q (F0 m tgt ls rest)) (kf : a = b → W p l e R s m args below meth c H locs cells slots Q (F0 m (pc + 3) ls rest)) : W p l e R s m args below meth c H locs cells slots Q (F0 m pc ls (.int (nI b) :: .int (nI a) :: rest)) := by
  refine lv_icmp_ne hx hb hdg ht (fun h => kt (fun q => ?_)) (fun h => kf (Decidable.byContradiction (fun q => ?_)))
  · subst q
    simp at h
  · have := (nI_eq ha hb2 (a := a) (b := b))
    simp_all
/-- a call: what the callee needs is cut out of the world w (places isC), the rest (places isR) stays -/
theorem ht_pre {wc : va_W} {y : MethodName} {ws : List Cond} {av : List Value} (hK : va_K D vwCl [(dA, .int)] s) (I : ht_I D A H0 w H locs) (isC : List Nat) (hC : isC.map (fun i => w[i]?) = wc.map some) (hnC : va_nd isC = true) : FrameBlind (va_Pc av (ht_Pre D dA wc H.size)) ∧ ∀ U : State, U.heap = H → s.WarmedH U.vm → va_Pc av (ht_Pre D dA wc H.size) av.toArray U := by
  have hPc : va_P D vwCl wc H := I.1.sub isC (ht_fm hC)
  have hDc : va_D A wc := I.2.1.sub isC hnC hC
  refine ⟨fun a U g mk q => ?_, fun U hU hW => ⟨rfl, by rw [hU], by rw [hU]; exact hPc, va_K.moved hW.alike hK, hDc.weaken (fun _ _ _ _ => trivial)⟩⟩
  obtain ⟨q0, q1, qP, qK, qD⟩ := q
  exact ⟨q0, q1, qP, va_K.moved (u := U) (U := U.calling g mk a) (Vm.Alike.refl U.vm) qK, qD⟩
theorem ht_post {wc wr w1 : va_W} {t : State} {H1 : Heap} {locs1 : List Loc} (hA : ∀ q : Nat, H0.size ≤ q → A q) (I : ht_I D A H0 w H locs) (isC isR : List Nat) (hC : isC.map (fun i => w[i]?) = wc.map some) (hR : isR.map (fun i => w[i]?) = wr.map some) (hnR : va_nd isR = true) (hdis : ∀ i ∈ isR, i ∉ isC)
    (ht : t.heap = H1) (hB : ht_Po D dA (va_A wc H.size) w1 t) (hk1 : ∀ q : Nat, q < H.size → ¬ va_A wc H.size q → H1[q]? = H[q]?) (hS1 : va_S A H0 H1 locs1) : ht_I D A H0 (wr ++ w1) H1 locs1 := by
  obtain ⟨hP1, hK1, hD1⟩ := hB
  rw [ht] at hP1
  obtain ⟨h1, h2⟩ := va_join (wr := wr) (w1 := w1) I.1 I.2.1 isC isR hC hR hnR hdis hk1 (va_free (wc := wc) I.2.1 I.2.2 hA isC hC) hP1 hD1
  exact ⟨h1, h2, hS1⟩
theorem ht_callVi {y : MethodName} {bytes : ByteArray} {maxL nL n index fr lo : Nat} {ret : Option FieldType} {own C : String} {b ci q0 : Nat} {T : u_T} {N : Nat} {fs : List Value} {As st0 : List Value} {wc wr : va_W} {post : Int32 → S → Prop}
    (hx : p.tables.exec = Jvm.exec) (hb : c.code = cc) (hml : c.maxLocals = nL) (hown : s.vm.findClass own = some m.cls) (hts : ∀ w ∈ lw_all, w.before args s = true) (hK : va_K D vwCl [(dA, .int)] s) (hA : ∀ q : Nat, H0.size ≤ q → A q) (I : ht_I D A H0 w H locs)
    (hM : ht_MI l D dA y (ws_ y bytes maxL ret) fr lo (.ref b :: As) wc post w2) (cw : CallW R s args own C index y bytes maxL ret (ws_ y bytes maxL ret) (ht_Rm fr lo) 0 0 n) (hc : vwCl[ci]? = some (C, T, N)) (he : w[q0]? = some (b, .inr (ci, fs)))
    (isC isR : List Nat) (hC : isC.map (fun i => w[i]?) = wc.map some) (hR : isR.map (fun i => w[i]?) = wr.map some) (hnC : va_nd isC = true) (hnR : va_nd isR = true) (hdis : ∀ i ∈ isR, i ∉ isC)
    (hn : As.length = n) (hsz : ls.size = nL) (hst : st0 = As.reverse ++ .ref b :: rest) (hroom : (rest.map fun v => v.category).sum ≤ 8) (hdg : decode cc pc = .ok (.invokevirtual index, 3)) (hf : cells ≤ R.cells ∧ slots ≤ R.slots)
    (kk : ∀ (r : Int32) (u : S) (H1 : Heap) (locs1 : List Loc), post r u → ht_I D A H0 (wr ++ w2 u) H1 locs1 → W p l e R s m args below meth c H1 locs1 cells slots Q (F0 m (pc + 3) ls (.int r :: rest))) : W p l e R s m args below meth c H locs cells slots Q (F0 m pc ls st0) := by
  have hp := ht_pre (av := .ref b :: As) (y := y) (ws := []) hK I isC hC hnC
  have hFc := va_free (wc := wc) I.2.1 I.2.2 hA isC hC
  exact va_calli (va_runV (As := As) (rest := rest) ⟨hx, hb, hml, hown, hts⟩ (hM H.size) cw ⟨hp.1, va_recv hK I.1 hc he, hp.2⟩ rfl hn hsz hst (lv_room hroom) hdg hf) I.2.2 (fun q _ h => hFc q h) hFc (fun r u t H1 locs1 ht hvm hpo hB hz1 hk1 hS1 => kk r u H1 locs1 hpo (ht_post hA I isC isR hC hR hnR hdis ht hB hk1 hS1))
theorem ht_callVl {y : MethodName} {bytes : ByteArray} {maxL nL n index fr lo : Nat} {ret : Option FieldType} {own C : String} {b ci q0 : Nat} {T : u_T} {N : Nat} {fs : List Value} {As st0 : List Value} {wc wr : va_W} {post : Int64 → S → Prop}
    (hx : p.tables.exec = Jvm.exec) (hb : c.code = cc) (hml : c.maxLocals = nL) (hown : s.vm.findClass own = some m.cls) (hts : ∀ w ∈ lw_all, w.before args s = true) (hK : va_K D vwCl [(dA, .int)] s) (hA : ∀ q : Nat, H0.size ≤ q → A q) (I : ht_I D A H0 w H locs)
    (hM : ht_ML l D dA y (ws_ y bytes maxL ret) fr lo (.ref b :: As) wc post w2) (cw : CallW R s args own C index y bytes maxL ret (ws_ y bytes maxL ret) (ht_Rm fr lo) 0 0 n) (hc : vwCl[ci]? = some (C, T, N)) (he : w[q0]? = some (b, .inr (ci, fs)))
    (isC isR : List Nat) (hC : isC.map (fun i => w[i]?) = wc.map some) (hR : isR.map (fun i => w[i]?) = wr.map some) (hnC : va_nd isC = true) (hnR : va_nd isR = true) (hdis : ∀ i ∈ isR, i ∉ isC)
    (hn : As.length = n) (hsz : ls.size = nL) (hst : st0 = As.reverse ++ .ref b :: rest) (hroom : (rest.map fun v => v.category).sum ≤ 8) (hdg : decode cc pc = .ok (.invokevirtual index, 3)) (hf : cells ≤ R.cells ∧ slots ≤ R.slots)
    (kk : ∀ (r : Int64) (u : S) (H1 : Heap) (locs1 : List Loc), post r u → ht_I D A H0 (wr ++ w2 u) H1 locs1 → W p l e R s m args below meth c H1 locs1 cells slots Q (F0 m (pc + 3) ls (.long r :: rest))) : W p l e R s m args below meth c H locs cells slots Q (F0 m pc ls st0) := by
  have hp := ht_pre (av := .ref b :: As) (y := y) (ws := []) hK I isC hC hnC
  have hFc := va_free (wc := wc) I.2.1 I.2.2 hA isC hC
  exact va_calll (va_runV (As := As) (rest := rest) ⟨hx, hb, hml, hown, hts⟩ (hM H.size) cw ⟨hp.1, va_recv hK I.1 hc he, hp.2⟩ rfl hn hsz hst (lv_room hroom) hdg hf) I.2.2 (fun q _ h => hFc q h) hFc (fun r u t H1 locs1 ht hvm hpo hB hz1 hk1 hS1 => kk r u H1 locs1 hpo (ht_post hA I isC isR hC hR hnR hdis ht hB hk1 hS1))
theorem ht_callVv {y : MethodName} {bytes : ByteArray} {maxL nL n index fr lo : Nat} {ret : Option FieldType} {own C : String} {b ci q0 : Nat} {T : u_T} {N : Nat} {fs : List Value} {As st0 : List Value} {wc wr : va_W} {post : S → Prop}
    (hx : p.tables.exec = Jvm.exec) (hb : c.code = cc) (hml : c.maxLocals = nL) (hown : s.vm.findClass own = some m.cls) (hts : ∀ w ∈ lw_all, w.before args s = true) (hK : va_K D vwCl [(dA, .int)] s) (hA : ∀ q : Nat, H0.size ≤ q → A q) (I : ht_I D A H0 w H locs)
    (hM : ht_MV l D dA y (ws_ y bytes maxL ret) fr lo (.ref b :: As) wc post w2) (cw : CallW R s args own C index y bytes maxL ret (ws_ y bytes maxL ret) (ht_Rm fr lo) 0 0 n) (hc : vwCl[ci]? = some (C, T, N)) (he : w[q0]? = some (b, .inr (ci, fs)))
    (isC isR : List Nat) (hC : isC.map (fun i => w[i]?) = wc.map some) (hR : isR.map (fun i => w[i]?) = wr.map some) (hnC : va_nd isC = true) (hnR : va_nd isR = true) (hdis : ∀ i ∈ isR, i ∉ isC)
    (hn : As.length = n) (hsz : ls.size = nL) (hst : st0 = As.reverse ++ .ref b :: rest) (hroom : (rest.map fun v => v.category).sum ≤ 8) (hdg : decode cc pc = .ok (.invokevirtual index, 3)) (hf : cells ≤ R.cells ∧ slots ≤ R.slots)
    (kk : ∀ (u : S) (H1 : Heap) (locs1 : List Loc), post u → ht_I D A H0 (wr ++ w2 u) H1 locs1 → W p l e R s m args below meth c H1 locs1 cells slots Q (F0 m (pc + 3) ls rest)) : W p l e R s m args below meth c H locs cells slots Q (F0 m pc ls st0) := by
  have hp := ht_pre (av := .ref b :: As) (y := y) (ws := []) hK I isC hC hnC
  have hFc := va_free (wc := wc) I.2.1 I.2.2 hA isC hC
  exact va_callv (va_runV (As := As) (rest := rest) ⟨hx, hb, hml, hown, hts⟩ (hM H.size) cw ⟨hp.1, va_recv hK I.1 hc he, hp.2⟩ rfl hn hsz hst (lv_room hroom) hdg hf) I.2.2 (fun q _ h => hFc q h) hFc (fun u t H1 locs1 ht hvm hpo hB hz1 hk1 hS1 => kk u H1 locs1 hpo (ht_post hA I isC isR hC hR hnR hdis ht hB hk1 hS1))
/-- a static call that needs no cell -/
theorem ht_callSi {y : MethodName} {bytes : ByteArray} {maxL nL n index fr lo : Nat} {ret : Option FieldType} {own : String} {As st0 : List Value} {wr : va_W} {post : Int32 → S → Prop}
    (hx : p.tables.exec = Jvm.exec) (hb : c.code = cc) (hml : c.maxLocals = nL) (hown : s.vm.findClass own = some m.cls) (hts : ∀ w ∈ lw_all, w.before args s = true) (hK : va_K D vwCl [(dA, .int)] s) (hA : ∀ q : Nat, H0.size ≤ q → A q) (I : ht_I D A H0 w H locs)
    (hM : ht_MI l D dA y (ws_ y bytes maxL ret) fr lo As [] post w2) (cw : CallB R s args own index y bytes maxL ret (ws_ y bytes maxL ret) (ht_Rm fr lo) 0 0 n ∧ (Cond.static y).before args s = true)
    (isR : List Nat) (hR : isR.map (fun i => w[i]?) = wr.map some) (hnR : va_nd isR = true)
    (hn : As.length = n) (hsz : ls.size = nL) (hst : st0 = As.reverse ++ rest) (hroom : (rest.map fun v => v.category).sum ≤ 8) (hdg : decode cc pc = .ok (.invokestatic index, 3)) (hf : cells ≤ R.cells ∧ slots ≤ R.slots)
    (kk : ∀ (r : Int32) (u : S) (H1 : Heap) (locs1 : List Loc), post r u → ht_I D A H0 (wr ++ w2 u) H1 locs1 → W p l e R s m args below meth c H1 locs1 cells slots Q (F0 m (pc + 3) ls (.int r :: rest))) : W p l e R s m args below meth c H locs cells slots Q (F0 m pc ls st0) := by
  have hp := ht_pre (av := As) (y := y) (ws := []) (wc := []) hK I [] rfl rfl
  have hFc := va_free (wc := []) I.2.1 I.2.2 hA [] rfl
  exact va_calli (va_runS (As := As) (rest := rest) ⟨hx, hb, hml, hown, hts⟩ (hM H.size) cw hp rfl hn hsz hst (lv_room hroom) hdg hf) I.2.2 (fun q _ h => hFc q h) hFc (fun r u t H1 locs1 ht hvm hpo hB hz1 hk1 hS1 => kk r u H1 locs1 hpo (ht_post hA I [] isR rfl hR hnR (fun _ _ h => by cases h) ht hB hk1 hS1))
end
end
section
/-! PURE 1: what the two programs compute, in plain words -/
def ht_cl (x f : Int32) : Int32 := (x >>> ((nI 3 * f) &&& 31)) &&& nI 7
def ht_step (SF SB : Nat → Int32) (t : Nat) (fe : Int32) (nd : Nat) : Nat := if SF (t * 7 + nd) < 0 then nd else if SB (t * 7 + nd) < ht_cl fe (SF (t * 7 + nd)) then 2 * nd + 2 else 2 * nd + 1
def ht_walk (SF SB : Nat → Int32) (t : Nat) (fe : Int32) : Nat → Nat → Nat
  | 0, nd => nd
  | n + 1, nd => ht_walk SF SB t fe n (ht_step SF SB t fe nd)
theorem ht_walk_stop {SF SB : Nat → Int32} {t : Nat} {fe : Int32} {nd : Nat} (h : SF (t * 7 + nd) < 0) : ∀ n, ht_walk SF SB t fe n nd = nd
  | 0 => rfl
  | n + 1 => by
    have e : ht_step SF SB t fe nd = nd := if_pos h
    show ht_walk SF SB t fe n (ht_step SF SB t fe nd) = nd
    rw [e]
    exact ht_walk_stop h n
def ht_leaf (SF SB LV : Nat → Int32) (fe : Int32) (t : Nat) : Int32 := LV (t * 7 + ht_walk SF SB t fe 2 0)
/-- the sum of the first n trees' leaves -/
def ht_pred (SF SB LV : Nat → Int32) (fe : Int32) : Nat → Int32
  | 0 => nI 0
  | t + 1 => ht_pred SF SB LV fe t + ht_leaf SF SB LV fe t
def ht_rest (SF SB LV F T : Nat → Int32) (tn i : Nat) : Int32 := T i - ht_pred SF SB LV (F i) tn
def ht_loss (SF SB LV F T : Nat → Int32) (tn : Nat) : Nat → Int32
  | 0 => nI 0
  | i + 1 => ht_loss SF SB LV F T tn i + ht_rest SF SB LV F T tn i * ht_rest SF SB LV F T tn i
/-- f lo + .. + f (lo + n - 1) -/
def ht_fs (f : Nat → Int32) (lo : Nat) : Nat → Int32
  | 0 => nI 0
  | n + 1 => ht_fs f lo n + f (lo + n)
/-- f with n places from lo on as g has them -/
def ht_put (f : Nat → Int32) (lo n : Nat) (g : Nat → Int32) : Nat → Int32 := fun j => if lo ≤ j ∧ j < lo + n then g j else f j
theorem ht_put_0 {f g : Nat → Int32} {lo : Nat} : ht_put f lo 0 g = f := by
  funext j
  exact if_neg (by omega)
theorem ht_put_s {f g : Nat → Int32} {lo n : Nat} {x : Int32} (h : x = g (lo + n)) : upd (ht_put f lo n g) (lo + n) x = ht_put f lo (n + 1) g := by
  funext j
  unfold upd ht_put
  by_cases e : j = lo + n
  · rw [if_pos e, if_pos (by omega), e, h]
  · rw [if_neg e]
    by_cases e2 : lo ≤ j ∧ j < lo + n
    · rw [if_pos e2, if_pos (by omega)]
    · rw [if_neg e2, if_neg (by omega)]
theorem ht_put_out {f g : Nat → Int32} {lo n j : Nat} (h : j < lo ∨ lo + n ≤ j) : ht_put f lo n g j = f j := if_neg (by omega)
theorem ht_put_in {f g : Nat → Int32} {lo n j : Nat} (h : lo ≤ j) (h2 : j < lo + n) : ht_put f lo n g j = g j := if_pos ⟨h, h2⟩
end
section
variable (l : Launch) (D : va_G) (dA : ClassId) (ad : Nat → Nat) (ln cn tn : Nat) (bf bb : Int32) (bt bo : Int64) (F T SF SB LV NR RE ND CR CS : Nat → Int32)
set_option maxHeartbeats 4000000 in
set_option maxRecDepth 100000 in
theorem xt_featureOf (x f : Int32) : ht_MI l D dA yX1_featureOf (ws_ yX1_featureOf cX1_featureOf 2 (some .int)) 0 0 [.int x, .int f] ([]) (S := Unit) (fun (r : Int32) (_ : Unit) => r = ht_cl x f) (fun _ => ([] : va_W)) := by
  refine ht_MI_of (by decide) (Nat.le_of_ble_eq_true rfl) ?_
  intro p e s m below meth c A hx hb hr hlk hml hown hts hK hA I ls hl
  have hown : s.vm.findClass RX1 = some m.cls := hown
  have hl : lv_has ls 2 [(0, .int x), (1, .int f)] := hl
  refine lv_iload_n hx hb dX1_featureOf_0 rfl (lv_at hl 0 rfl) ?_
  refine lv_iconst (v := nI 3) hx hb dX1_featureOf_1 (by decide) ?_
  refine lv_iload_n hx hb dX1_featureOf_2 rfl (lv_at hl 1 rfl) ?_
  refine lv_imul hx hb dX1_featureOf_3 ?_
  refine lv_ishr hx hb dX1_featureOf_4 ?_
  refine lv_bipush (v := nI 7) hx hb dX1_featureOf_5 (by decide) ?_
  refine lv_iand hx hb dX1_featureOf_7 ?_
  exact ht_iret hx hb hr hlk hK I (w2 := fun _ => ([] : va_W)) () rfl rfl dX1_featureOf_8
set_option maxHeartbeats 4000000 in
set_option maxRecDepth 100000 in
theorem xt_predictBy (t : Nat) (fe : Int32) (ht : t < 4) : ht_MI l D dA yX1_predictBy (ws_ yX1_predictBy cX1_predictBy 7 (some .int)) 1 21 [.ref (ad 0), .int (nI t), .int fe] (ht_X ad dA (nI ln) (nI cn) (nI tn) bf bb bt bo F T SF SB LV NR RE ND CR CS) (S := Unit) (fun (r : Int32) (_ : Unit) => r = ht_leaf SF SB LV fe t) (fun _ => ht_X ad dA (nI ln) (nI cn) (nI tn) bf bb bt bo F T SF SB LV NR RE ND CR CS) := by
  refine ht_MI_of (by decide) (Nat.le_of_ble_eq_true rfl) ?_
  intro p e s m below meth c A hx hb hr hlk hml hown hts hK hA I ls hl
  have hown : s.vm.findClass RX1 = some m.cls := hown
  have hl : lv_has ls 7 [(0, .ref (ad 0)), (1, .int (nI t)), (2, .int fe)] := hl
  have loop : ∀ (n i nd : Nat), i + n = 2 → (i = 0 ∧ nd = 0 ∨ i = 1 ∧ nd ≤ 2 ∨ i = 2 ∧ nd ≤ 6) → ht_walk SF SB t fe n nd = ht_walk SF SB t fe 2 0 → ∀ (H : Heap) (locs : List Loc), ht_I D A s.heap (ht_X ad dA (nI ln) (nI cn) (nI tn) bf bb bt bo F T SF SB LV NR RE ND CR CS) H locs → ∀ ls : Array Slot, lv_has ls 7 [(4, .int (nI i)), (3, .int (nI nd)), (0, .ref (ad 0)), (1, .int (nI t)), (2, .int fe)] → W p l e (ht_Rm 1 21) s m ([.ref (ad 0), .int (nI t), .int fe] : List Value).toArray below meth c H locs 0 0 (MQ below (va_Qi (fun (r : Int32) (_ : Unit) => r = ht_leaf SF SB LV fe t) (fun u t => ht_Po D dA A ((fun _ => ht_X ad dA (nI ln) (nI cn) (nI tn) bf bb bt bo F T SF SB LV NR RE ND CR CS) u) t) A) ([.ref (ad 0), .int (nI t), .int fe] : List Value).toArray s 0 0 A) (F0 m 5 ls []) := by
    intro n
    induction n with
    | zero =>
      intro i nd hi hn hw H locs I ls hl
      refine lv_iload hx hb dX1_predictBy_5 (lv_at hl 0 rfl) ?_
      refine lv_iconst (v := nI 2) hx hb dX1_predictBy_7 (by decide) ?_
      refine ht_ge (tgt := 78) hx hb dX1_predictBy_8 (by decide) (by omega) (by omega) (fun c_1 => ?_) (fun c_1 => ?_)
      · refine lv_aload_n hx hb dX1_predictBy_78 rfl (lv_at hl 2 rfl) ?_
        refine ht_getX hx hb hts hown hK I 7 (by decide) q43 rfl rfl dX1_predictBy_79 ?_
        refine lv_iload_n hx hb dX1_predictBy_82 rfl (lv_at hl 3 rfl) ?_
        refine lv_bipush (v := nI 7) hx hb dX1_predictBy_83 (by decide) ?_
        refine lv_imul hx hb dX1_predictBy_85 ?_
        refine ht_ti (pk_mul t 7) ?_
        refine lv_iload_n hx hb dX1_predictBy_86 rfl (lv_at hl 1 rfl) ?_
        refine lv_iadd hx hb dX1_predictBy_87 ?_
        refine ht_ti (nI_add (t * 7) nd) ?_
        refine ht_ald hx hb hK I 5 rfl (by omega) dX1_predictBy_88 ?_
        exact ht_iret hx hb hr hlk hK I (w2 := fun _ => ht_X ad dA (nI ln) (nI cn) (nI tn) bf bb bt bo F T SF SB LV NR RE ND CR CS) () (by unfold ht_leaf; rw [← hw]; rfl) rfl dX1_predictBy_89
      · exact absurd c_1 (by omega)
    | succ n ih =>
      intro i nd hi hn hw H locs I ls hl
      refine lv_iload hx hb dX1_predictBy_5 (lv_at hl 0 rfl) ?_
      refine lv_iconst (v := nI 2) hx hb dX1_predictBy_7 (by decide) ?_
      refine ht_ge (tgt := 78) hx hb dX1_predictBy_8 (by decide) (by omega) (by omega) (fun c_2 => ?_) (fun c_2 => ?_)
      · exact absurd c_2 (by omega)
      · refine lv_aload_n hx hb dX1_predictBy_11 rfl (lv_at hl 2 rfl) ?_
        refine ht_getX hx hb hts hown hK I 5 (by decide) q41 rfl rfl dX1_predictBy_12 ?_
        refine lv_iload_n hx hb dX1_predictBy_15 rfl (lv_at hl 3 rfl) ?_
        refine lv_bipush (v := nI 7) hx hb dX1_predictBy_16 (by decide) ?_
        refine lv_imul hx hb dX1_predictBy_18 ?_
        refine ht_ti (pk_mul t 7) ?_
        refine lv_iload_n hx hb dX1_predictBy_19 rfl (lv_at hl 1 rfl) ?_
        refine lv_iadd hx hb dX1_predictBy_20 ?_
        refine ht_ti (nI_add (t * 7) nd) ?_
        refine ht_ald hx hb hK I 3 rfl (by omega) dX1_predictBy_21 ?_
        refine lv_if_lt (tgt := 78) hx hb dX1_predictBy_22 (by decide) (fun c_3 => ?_) (fun c_3 => ?_)
        · have e_ := ht_walk_stop (SB := SB) (fe := fe) c_3 (n + 1)
          refine lv_aload_n hx hb dX1_predictBy_78 rfl (lv_at hl 2 rfl) ?_
          refine ht_getX hx hb hts hown hK I 7 (by decide) q43 rfl rfl dX1_predictBy_79 ?_
          refine lv_iload_n hx hb dX1_predictBy_82 rfl (lv_at hl 3 rfl) ?_
          refine lv_bipush (v := nI 7) hx hb dX1_predictBy_83 (by decide) ?_
          refine lv_imul hx hb dX1_predictBy_85 ?_
          refine ht_ti (pk_mul t 7) ?_
          refine lv_iload_n hx hb dX1_predictBy_86 rfl (lv_at hl 1 rfl) ?_
          refine lv_iadd hx hb dX1_predictBy_87 ?_
          refine ht_ti (nI_add (t * 7) nd) ?_
          refine ht_ald hx hb hK I 5 rfl (by omega) dX1_predictBy_88 ?_
          exact ht_iret hx hb hr hlk hK I (w2 := fun _ => ht_X ad dA (nI ln) (nI cn) (nI tn) bf bb bt bo F T SF SB LV NR RE ND CR CS) () (by unfold ht_leaf; rw [← hw, e_]) rfl dX1_predictBy_89
        · refine lv_iload_n hx hb dX1_predictBy_25 rfl (lv_at hl 3 rfl) ?_
          refine lv_bipush (v := nI 7) hx hb dX1_predictBy_26 (by decide) ?_
          refine lv_imul hx hb dX1_predictBy_28 ?_
          refine ht_ti (pk_mul t 7) ?_
          refine lv_iload_n hx hb dX1_predictBy_29 rfl (lv_at hl 1 rfl) ?_
          refine lv_iadd hx hb dX1_predictBy_30 ?_
          refine ht_ti (nI_add (t * 7) nd) ?_
          refine lv_istore (lv' := [(5, .int (nI (t * 7 + nd))), (4, .int (nI i)), (3, .int (nI nd)), (0, .ref (ad 0)), (1, .int (nI t)), (2, .int fe)]) hx hb dX1_predictBy_31 hl (by decide) rfl (fun ls hl => ?_)
          refine lv_iload_n hx hb dX1_predictBy_33 rfl (lv_at hl 5 rfl) ?_
          refine lv_aload_n hx hb dX1_predictBy_34 rfl (lv_at hl 3 rfl) ?_
          refine ht_getX hx hb hts hown hK I 5 (by decide) q41 rfl rfl dX1_predictBy_35 ?_
          refine lv_iload hx hb dX1_predictBy_38 (lv_at hl 0 rfl) ?_
          refine ht_ald hx hb hK I 3 rfl (by omega) dX1_predictBy_40 ?_
          refine ht_callSi (As := [.int fe, .int (SF (t * 7 + nd))]) (rest := []) (wr := ht_X ad dA (nI ln) (nI cn) (nI tn) bf bb bt bo F T SF SB LV NR RE ND CR CS) hx hb hml hown hts hK hA I (xt_featureOf l D dA fe (SF (t * 7 + nd))) (va_cwS 2 hts (lw_S q113 q114 q26 q115) rfl rfl rfl (by decide +kernel) (by decide)) [0, 1, 2, 3, 4, 5, 6, 7, 8, 9, 10] rfl (by decide) rfl hl.1 rfl (Nat.le_of_ble_eq_true rfl) dX1_predictBy_41 (by decide) (fun r u H locs hp I => ?_)
          subst hp
          have I : ht_I D A s.heap (ht_X ad dA (nI ln) (nI cn) (nI tn) bf bb bt bo F T SF SB LV NR RE ND CR CS) H locs := I
          refine lv_istore (lv' := [(6, .int (ht_cl fe (SF (t * 7 + nd)))), (5, .int (nI (t * 7 + nd))), (4, .int (nI i)), (3, .int (nI nd)), (0, .ref (ad 0)), (1, .int (nI t)), (2, .int fe)]) hx hb dX1_predictBy_44 hl (by decide) rfl (fun ls hl => ?_)
          refine lv_iload hx hb dX1_predictBy_46 (lv_at hl 0 rfl) ?_
          refine lv_aload_n hx hb dX1_predictBy_48 rfl (lv_at hl 4 rfl) ?_
          refine ht_getX hx hb hts hown hK I 6 (by decide) q42 rfl rfl dX1_predictBy_49 ?_
          refine lv_iload hx hb dX1_predictBy_52 (lv_at hl 1 rfl) ?_
          refine ht_ald hx hb hK I 4 rfl (by omega) dX1_predictBy_54 ?_
          refine lv_icmp_gt (tgt := 66) hx hb dX1_predictBy_55 (by decide) (fun c_4 => ?_) (fun c_4 => ?_)
          · refine lv_iconst (v := nI 2) hx hb dX1_predictBy_66 (by decide) ?_
            refine lv_iload_n hx hb dX1_predictBy_67 rfl (lv_at hl 3 rfl) ?_
            refine lv_imul hx hb dX1_predictBy_68 ?_
            refine ht_ti (pk_mul 2 nd) ?_
            refine lv_iconst (v := nI 2) hx hb dX1_predictBy_69 (by decide) ?_
            refine lv_iadd hx hb dX1_predictBy_70 ?_
            refine ht_ti (nI_add (2 * nd) 2) ?_
            refine lv_istore_n (lv' := [(3, .int (nI (2 * nd + 2))), (6, .int (ht_cl fe (SF (t * 7 + nd)))), (5, .int (nI (t * 7 + nd))), (4, .int (nI i)), (0, .ref (ad 0)), (1, .int (nI t)), (2, .int fe)]) hx hb dX1_predictBy_71 rfl hl (by decide) rfl (fun ls hl => ?_)
            refine lv_iinc (v := (nI (i + 1))) (lv' := [(4, .int (nI (i + 1))), (3, .int (nI (2 * nd + 2))), (6, .int (ht_cl fe (SF (t * 7 + nd)))), (5, .int (nI (t * 7 + nd))), (0, .ref (ad 0)), (1, .int (nI t)), (2, .int fe)]) hx hb dX1_predictBy_72 hl (k := 3) rfl (nI_add i 1) (by decide) rfl (fun ls hl => ?_)
            refine lv_goto (tgt := 5) hx hb dX1_predictBy_75 (by decide) ?_
            exact ih (i + 1) (2 * nd + 2) (by omega) (by omega) (by rw [← hw]; show _ = ht_walk SF SB t fe n (ht_step SF SB t fe nd); unfold ht_step; rw [if_neg c_3, if_pos c_4]) _ _ I ls (lv_sub hl [0, 1, 4, 5, 6] rfl)
          · refine lv_iconst (v := nI 2) hx hb dX1_predictBy_58 (by decide) ?_
            refine lv_iload_n hx hb dX1_predictBy_59 rfl (lv_at hl 3 rfl) ?_
            refine lv_imul hx hb dX1_predictBy_60 ?_
            refine ht_ti (pk_mul 2 nd) ?_
            refine lv_iconst (v := nI 1) hx hb dX1_predictBy_61 (by decide) ?_
            refine lv_iadd hx hb dX1_predictBy_62 ?_
            refine ht_ti (nI_add (2 * nd) 1) ?_
            refine lv_goto (tgt := 71) hx hb dX1_predictBy_63 (by decide) ?_
            refine lv_istore_n (lv' := [(3, .int (nI (2 * nd + 1))), (6, .int (ht_cl fe (SF (t * 7 + nd)))), (5, .int (nI (t * 7 + nd))), (4, .int (nI i)), (0, .ref (ad 0)), (1, .int (nI t)), (2, .int fe)]) hx hb dX1_predictBy_71 rfl hl (by decide) rfl (fun ls hl => ?_)
            refine lv_iinc (v := (nI (i + 1))) (lv' := [(4, .int (nI (i + 1))), (3, .int (nI (2 * nd + 1))), (6, .int (ht_cl fe (SF (t * 7 + nd)))), (5, .int (nI (t * 7 + nd))), (0, .ref (ad 0)), (1, .int (nI t)), (2, .int fe)]) hx hb dX1_predictBy_72 hl (k := 3) rfl (nI_add i 1) (by decide) rfl (fun ls hl => ?_)
            refine lv_goto (tgt := 5) hx hb dX1_predictBy_75 (by decide) ?_
            exact ih (i + 1) (2 * nd + 1) (by omega) (by omega) (by rw [← hw]; show _ = ht_walk SF SB t fe n (ht_step SF SB t fe nd); unfold ht_step; rw [if_neg c_3, if_neg c_4]) _ _ I ls (lv_sub hl [0, 1, 4, 5, 6] rfl)
  refine lv_iconst (v := nI 0) hx hb dX1_predictBy_0 (by decide) ?_
  refine lv_istore_n (lv' := [(3, .int (nI 0)), (0, .ref (ad 0)), (1, .int (nI t)), (2, .int fe)]) hx hb dX1_predictBy_1 rfl hl (by decide) rfl (fun ls hl => ?_)
  refine lv_iconst (v := nI 0) hx hb dX1_predictBy_2 (by decide) ?_
  refine lv_istore (lv' := [(4, .int (nI 0)), (3, .int (nI 0)), (0, .ref (ad 0)), (1, .int (nI t)), (2, .int fe)]) hx hb dX1_predictBy_3 hl (by decide) rfl (fun ls hl => ?_)
  exact loop 2 0 0 (by omega) (by omega) rfl _ _ I ls (lv_sub hl [0, 1, 2, 3, 4] rfl)
set_option maxHeartbeats 4000000 in
set_option maxRecDepth 100000 in
theorem xt_predictAll (fe : Int32) (htn : tn ≤ 4) : ht_MI l D dA yX1_predictAll (ws_ yX1_predictAll cX1_predictAll 4 (some .int)) 2 47 [.ref (ad 0), .int fe] (ht_X ad dA (nI ln) (nI cn) (nI tn) bf bb bt bo F T SF SB LV NR RE ND CR CS) (S := Unit) (fun (r : Int32) (_ : Unit) => r = ht_pred SF SB LV fe tn) (fun _ => ht_X ad dA (nI ln) (nI cn) (nI tn) bf bb bt bo F T SF SB LV NR RE ND CR CS) := by
  refine ht_MI_of (by decide) (Nat.le_of_ble_eq_true rfl) ?_
  intro p e s m below meth c A hx hb hr hlk hml hown hts hK hA I ls hl
  have hown : s.vm.findClass RX1 = some m.cls := hown
  have hl : lv_has ls 4 [(0, .ref (ad 0)), (1, .int fe)] := hl
  have loop : ∀ (n t : Nat), t + n = tn → ∀ (H : Heap) (locs : List Loc), ht_I D A s.heap (ht_X ad dA (nI ln) (nI cn) (nI tn) bf bb bt bo F T SF SB LV NR RE ND CR CS) H locs → ∀ ls : Array Slot, lv_has ls 4 [(3, .int (nI t)), (2, .int (ht_pred SF SB LV fe t)), (0, .ref (ad 0)), (1, .int fe)] → W p l e (ht_Rm 2 47) s m ([.ref (ad 0), .int fe] : List Value).toArray below meth c H locs 0 0 (MQ below (va_Qi (fun (r : Int32) (_ : Unit) => r = ht_pred SF SB LV fe tn) (fun u t => ht_Po D dA A ((fun _ => ht_X ad dA (nI ln) (nI cn) (nI tn) bf bb bt bo F T SF SB LV NR RE ND CR CS) u) t) A) ([.ref (ad 0), .int fe] : List Value).toArray s 0 0 A) (F0 m 4 ls []) := by
    intro n
    induction n with
    | zero =>
      intro t hi H locs I ls hl
      refine lv_iload_n hx hb dX1_predictAll_4 rfl (lv_at hl 0 rfl) ?_
      refine lv_aload_n hx hb dX1_predictAll_5 rfl (lv_at hl 2 rfl) ?_
      refine ht_getX hx hb hts hown hK I 4 (by decide) q40 rfl rfl dX1_predictAll_6 ?_
      refine ht_ge (tgt := 27) hx hb dX1_predictAll_9 (by decide) (by omega) (by omega) (fun c_1 => ?_) (fun c_1 => ?_)
      · refine lv_iload_n hx hb dX1_predictAll_27 rfl (lv_at hl 1 rfl) ?_
        exact ht_iret hx hb hr hlk hK I (w2 := fun _ => ht_X ad dA (nI ln) (nI cn) (nI tn) bf bb bt bo F T SF SB LV NR RE ND CR CS) () (by rw [show t = tn by omega]) rfl dX1_predictAll_28
      · exact absurd c_1 (by omega)
    | succ n ih =>
      intro t hi H locs I ls hl
      refine lv_iload_n hx hb dX1_predictAll_4 rfl (lv_at hl 0 rfl) ?_
      refine lv_aload_n hx hb dX1_predictAll_5 rfl (lv_at hl 2 rfl) ?_
      refine ht_getX hx hb hts hown hK I 4 (by decide) q40 rfl rfl dX1_predictAll_6 ?_
      refine ht_ge (tgt := 27) hx hb dX1_predictAll_9 (by decide) (by omega) (by omega) (fun c_2 => ?_) (fun c_2 => ?_)
      · exact absurd c_2 (by omega)
      · refine lv_iload_n hx hb dX1_predictAll_12 rfl (lv_at hl 1 rfl) ?_
        refine lv_aload_n hx hb dX1_predictAll_13 rfl (lv_at hl 2 rfl) ?_
        refine lv_iload_n hx hb dX1_predictAll_14 rfl (lv_at hl 0 rfl) ?_
        refine lv_iload_n hx hb dX1_predictAll_15 rfl (lv_at hl 3 rfl) ?_
        refine ht_callVi (As := [.int (nI t), .int fe]) (rest := [.int (ht_pred SF SB LV fe t)]) (wr := []) (q0 := 0) (ci := 0) hx hb hml hown hts hK hA I (xt_predictBy l D dA ad ln cn tn bf bb bt bo F T SF SB LV NR RE ND CR CS t fe (by omega)) (cwV 2 hts (lw_V q109 q111 qs2 q26 q112) rfl rfl rfl (by decide +kernel) (by decide)) rfl rfl [0, 1, 2, 3, 4, 5, 6, 7, 8, 9, 10] [] rfl rfl (by decide) (by decide) (by decide) rfl hl.1 rfl (Nat.le_of_ble_eq_true rfl) dX1_predictAll_16 (by decide) (fun r u H locs hp I => ?_)
        subst hp
        have I : ht_I D A s.heap (ht_X ad dA (nI ln) (nI cn) (nI tn) bf bb bt bo F T SF SB LV NR RE ND CR CS) H locs := I
        refine lv_iadd hx hb dX1_predictAll_19 ?_
        refine lv_istore_n (lv' := [(2, .int ((ht_pred SF SB LV fe t) + (ht_leaf SF SB LV fe t))), (3, .int (nI t)), (0, .ref (ad 0)), (1, .int fe)]) hx hb dX1_predictAll_20 rfl hl (by decide) rfl (fun ls hl => ?_)
        refine lv_iinc (v := (nI (t + 1))) (lv' := [(3, .int (nI (t + 1))), (2, .int ((ht_pred SF SB LV fe t) + (ht_leaf SF SB LV fe t))), (0, .ref (ad 0)), (1, .int fe)]) hx hb dX1_predictAll_21 hl (k := 1) rfl (nI_add t 1) (by decide) rfl (fun ls hl => ?_)
        refine lv_goto (tgt := 4) hx hb dX1_predictAll_24 (by decide) ?_
        exact ih (t + 1) (by omega) _ _ I ls (lv_sub hl [0, 1, 2, 3] rfl)
  refine lv_iconst (v := nI 0) hx hb dX1_predictAll_0 (by decide) ?_
  refine lv_istore_n (lv' := [(2, .int (nI 0)), (0, .ref (ad 0)), (1, .int fe)]) hx hb dX1_predictAll_1 rfl hl (by decide) rfl (fun ls hl => ?_)
  refine lv_iconst (v := nI 0) hx hb dX1_predictAll_2 (by decide) ?_
  refine lv_istore_n (lv' := [(3, .int (nI 0)), (2, .int (nI 0)), (0, .ref (ad 0)), (1, .int fe)]) hx hb dX1_predictAll_3 rfl hl (by decide) rfl (fun ls hl => ?_)
  exact loop tn 0 (by omega) _ _ I ls (lv_sub hl [0, 1, 2, 3] rfl)
set_option maxHeartbeats 4000000 in
set_option maxRecDepth 100000 in
theorem xt_restOf (i : Nat) (htn : tn ≤ 4) (hi : i < 24) : ht_MI l D dA yX1_restOf (ws_ yX1_restOf cX1_restOf 3 (some .int)) 3 70 [.ref (ad 0), .int (nI i)] (ht_X ad dA (nI ln) (nI cn) (nI tn) bf bb bt bo F T SF SB LV NR RE ND CR CS) (S := Unit) (fun (r : Int32) (_ : Unit) => r = ht_rest SF SB LV F T tn i) (fun _ => ht_X ad dA (nI ln) (nI cn) (nI tn) bf bb bt bo F T SF SB LV NR RE ND CR CS) := by
  refine ht_MI_of (by decide) (Nat.le_of_ble_eq_true rfl) ?_
  intro p e s m below meth c A hx hb hr hlk hml hown hts hK hA I ls hl
  have hown : s.vm.findClass RX1 = some m.cls := hown
  have hl : lv_has ls 3 [(0, .ref (ad 0)), (1, .int (nI i))] := hl
  refine lv_aload_n hx hb dX1_restOf_0 rfl (lv_at hl 0 rfl) ?_
  refine lv_aload_n hx hb dX1_restOf_1 rfl (lv_at hl 0 rfl) ?_
  refine ht_getX hx hb hts hown hK I 2 (by decide) q38 rfl rfl dX1_restOf_2 ?_
  refine lv_iload_n hx hb dX1_restOf_5 rfl (lv_at hl 1 rfl) ?_
  refine ht_ald hx hb hK I 1 rfl (by omega) dX1_restOf_6 ?_
  refine ht_callVi (As := [.int (F i)]) (rest := []) (wr := []) (q0 := 0) (ci := 0) hx hb hml hown hts hK hA I (xt_predictAll l D dA ad ln cn tn bf bb bt bo F T SF SB LV NR RE ND CR CS (F i) htn) (cwV 1 hts (lw_V q105 q107 qs1 q26 q108) rfl rfl rfl (by decide +kernel) (by decide)) rfl rfl [0, 1, 2, 3, 4, 5, 6, 7, 8, 9, 10] [] rfl rfl (by decide) (by decide) (by decide) rfl hl.1 rfl (Nat.le_of_ble_eq_true rfl) dX1_restOf_7 (by decide) (fun r u H locs hp I => ?_)
  subst hp
  have I : ht_I D A s.heap (ht_X ad dA (nI ln) (nI cn) (nI tn) bf bb bt bo F T SF SB LV NR RE ND CR CS) H locs := I
  refine lv_istore_n (lv' := [(2, .int (ht_pred SF SB LV (F i) tn)), (0, .ref (ad 0)), (1, .int (nI i))]) hx hb dX1_restOf_10 rfl hl (by decide) rfl (fun ls hl => ?_)
  refine lv_aload_n hx hb dX1_restOf_11 rfl (lv_at hl 1 rfl) ?_
  refine ht_getX hx hb hts hown hK I 3 (by decide) q39 rfl rfl dX1_restOf_12 ?_
  refine lv_iload_n hx hb dX1_restOf_15 rfl (lv_at hl 2 rfl) ?_
  refine ht_ald hx hb hK I 2 rfl (by omega) dX1_restOf_16 ?_
  refine lv_iload_n hx hb dX1_restOf_17 rfl (lv_at hl 0 rfl) ?_
  refine lv_isub hx hb dX1_restOf_18 ?_
  exact ht_iret hx hb hr hlk hK I (w2 := fun _ => ht_X ad dA (nI ln) (nI cn) (nI tn) bf bb bt bo F T SF SB LV NR RE ND CR CS) () rfl rfl dX1_restOf_19
set_option maxHeartbeats 4000000 in
set_option maxRecDepth 100000 in
theorem xt_predict (fe : Int32) (htn : tn ≤ 4) : ht_MI l D dA yX1_predict (ws_ yX1_predict cX1_predict 2 (some .int)) 3 70 [.ref (ad 0), .int fe] (ht_X ad dA (nI ln) (nI cn) (nI tn) bf bb bt bo F T SF SB LV NR RE ND CR CS) (S := Unit) (fun (r : Int32) (_ : Unit) => r = ht_pred SF SB LV (fe &&& nI 511) tn) (fun _ => ht_X ad dA (nI ln) (nI cn) (nI tn) bf bb bt bo F T SF SB LV NR RE ND CR CS) := by
  refine ht_MI_of (by decide) (Nat.le_of_ble_eq_true rfl) ?_
  intro p e s m below meth c A hx hb hr hlk hml hown hts hK hA I ls hl
  have hown : s.vm.findClass RX1 = some m.cls := hown
  have hl : lv_has ls 2 [(0, .ref (ad 0)), (1, .int fe)] := hl
  refine lv_aload_n hx hb dX1_predict_0 rfl (lv_at hl 0 rfl) ?_
  refine lv_iload_n hx hb dX1_predict_1 rfl (lv_at hl 1 rfl) ?_
  refine lv_sipush (v := nI 511) hx hb dX1_predict_2 (by decide) ?_
  refine lv_iand hx hb dX1_predict_5 ?_
  refine ht_callVi (As := [.int (fe &&& (nI 511))]) (rest := []) (wr := []) (q0 := 0) (ci := 0) hx hb hml hown hts hK hA I (xt_predictAll l D dA ad ln cn tn bf bb bt bo F T SF SB LV NR RE ND CR CS (fe &&& nI 511) htn) (cwV 1 hts (lw_V q105 q107 qs1 q26 q108) rfl rfl rfl (by decide +kernel) (by decide)) rfl rfl [0, 1, 2, 3, 4, 5, 6, 7, 8, 9, 10] [] rfl rfl (by decide) (by decide) (by decide) rfl hl.1 rfl (Nat.le_of_ble_eq_true rfl) dX1_predict_6 (by decide) (fun r u H locs hp I => ?_)
  subst hp
  have I : ht_I D A s.heap (ht_X ad dA (nI ln) (nI cn) (nI tn) bf bb bt bo F T SF SB LV NR RE ND CR CS) H locs := I
  exact ht_iret hx hb hr hlk hK I (w2 := fun _ => ht_X ad dA (nI ln) (nI cn) (nI tn) bf bb bt bo F T SF SB LV NR RE ND CR CS) () rfl rfl dX1_predict_9
set_option maxHeartbeats 4000000 in
set_option maxRecDepth 100000 in
theorem xt_rowsIn (nd : Nat) (hnd : nd < 7) : ht_MI l D dA yX1_rowsIn (ws_ yX1_rowsIn cX1_rowsIn 4 (some .int)) 0 0 [.ref (ad 0), .int (nI nd)] (ht_X ad dA (nI ln) (nI cn) (nI tn) bf bb bt bo F T SF SB LV NR RE ND CR CS) (S := Unit) (fun (r : Int32) (_ : Unit) => r = ht_fs CR (nd * 24) 8) (fun _ => ht_X ad dA (nI ln) (nI cn) (nI tn) bf bb bt bo F T SF SB LV NR RE ND CR CS) := by
  refine ht_MI_of (by decide) (Nat.le_of_ble_eq_true rfl) ?_
  intro p e s m below meth c A hx hb hr hlk hml hown hts hK hA I ls hl
  have hown : s.vm.findClass RX1 = some m.cls := hown
  have hl : lv_has ls 4 [(0, .ref (ad 0)), (1, .int (nI nd))] := hl
  have loop : ∀ (n v : Nat), v + n = 8 → ∀ (H : Heap) (locs : List Loc), ht_I D A s.heap (ht_X ad dA (nI ln) (nI cn) (nI tn) bf bb bt bo F T SF SB LV NR RE ND CR CS) H locs → ∀ ls : Array Slot, lv_has ls 4 [(3, .int (nI v)), (2, .int (ht_fs CR (nd * 24) v)), (0, .ref (ad 0)), (1, .int (nI nd))] → W p l e (ht_Rm 0 0) s m ([.ref (ad 0), .int (nI nd)] : List Value).toArray below meth c H locs 0 0 (MQ below (va_Qi (fun (r : Int32) (_ : Unit) => r = ht_fs CR (nd * 24) 8) (fun u t => ht_Po D dA A ((fun _ => ht_X ad dA (nI ln) (nI cn) (nI tn) bf bb bt bo F T SF SB LV NR RE ND CR CS) u) t) A) ([.ref (ad 0), .int (nI nd)] : List Value).toArray s 0 0 A) (F0 m 4 ls []) := by
    intro n
    induction n with
    | zero =>
      intro v hi H locs I ls hl
      refine lv_iload_n hx hb dX1_rowsIn_4 rfl (lv_at hl 0 rfl) ?_
      refine lv_bipush (v := nI 8) hx hb dX1_rowsIn_5 (by decide) ?_
      refine ht_ge (tgt := 30) hx hb dX1_rowsIn_7 (by decide) (by omega) (by omega) (fun c_1 => ?_) (fun c_1 => ?_)
      · refine lv_iload_n hx hb dX1_rowsIn_30 rfl (lv_at hl 1 rfl) ?_
        exact ht_iret hx hb hr hlk hK I (w2 := fun _ => ht_X ad dA (nI ln) (nI cn) (nI tn) bf bb bt bo F T SF SB LV NR RE ND CR CS) () (by rw [show v = 8 by omega]) rfl dX1_rowsIn_31
      · exact absurd c_1 (by omega)
    | succ n ih =>
      intro v hi H locs I ls hl
      refine lv_iload_n hx hb dX1_rowsIn_4 rfl (lv_at hl 0 rfl) ?_
      refine lv_bipush (v := nI 8) hx hb dX1_rowsIn_5 (by decide) ?_
      refine ht_ge (tgt := 30) hx hb dX1_rowsIn_7 (by decide) (by omega) (by omega) (fun c_2 => ?_) (fun c_2 => ?_)
      · exact absurd c_2 (by omega)
      · refine lv_iload_n hx hb dX1_rowsIn_10 rfl (lv_at hl 1 rfl) ?_
        refine lv_aload_n hx hb dX1_rowsIn_11 rfl (lv_at hl 2 rfl) ?_
        refine ht_getX hx hb hts hown hK I 11 (by decide) q47 rfl rfl dX1_rowsIn_12 ?_
        refine lv_iload_n hx hb dX1_rowsIn_15 rfl (lv_at hl 3 rfl) ?_
        refine lv_bipush (v := nI 24) hx hb dX1_rowsIn_16 (by decide) ?_
        refine lv_imul hx hb dX1_rowsIn_18 ?_
        refine ht_ti (pk_mul nd 24) ?_
        refine lv_iload_n hx hb dX1_rowsIn_19 rfl (lv_at hl 0 rfl) ?_
        refine lv_iadd hx hb dX1_rowsIn_20 ?_
        refine ht_ti (nI_add (nd * 24) v) ?_
        refine ht_ald hx hb hK I 9 rfl (by omega) dX1_rowsIn_21 ?_
        refine lv_iadd hx hb dX1_rowsIn_22 ?_
        refine lv_istore_n (lv' := [(2, .int ((ht_fs CR (nd * 24) v) + (CR (nd * 24 + v)))), (3, .int (nI v)), (0, .ref (ad 0)), (1, .int (nI nd))]) hx hb dX1_rowsIn_23 rfl hl (by decide) rfl (fun ls hl => ?_)
        refine lv_iinc (v := (nI (v + 1))) (lv' := [(3, .int (nI (v + 1))), (2, .int ((ht_fs CR (nd * 24) v) + (CR (nd * 24 + v)))), (0, .ref (ad 0)), (1, .int (nI nd))]) hx hb dX1_rowsIn_24 hl (k := 1) rfl (nI_add v 1) (by decide) rfl (fun ls hl => ?_)
        refine lv_goto (tgt := 4) hx hb dX1_rowsIn_27 (by decide) ?_
        exact ih (v + 1) (by omega) _ _ I ls (lv_sub hl [0, 1, 2, 3] rfl)
  refine lv_iconst (v := nI 0) hx hb dX1_rowsIn_0 (by decide) ?_
  refine lv_istore_n (lv' := [(2, .int (nI 0)), (0, .ref (ad 0)), (1, .int (nI nd))]) hx hb dX1_rowsIn_1 rfl hl (by decide) rfl (fun ls hl => ?_)
  refine lv_iconst (v := nI 0) hx hb dX1_rowsIn_2 (by decide) ?_
  refine lv_istore_n (lv' := [(3, .int (nI 0)), (2, .int (nI 0)), (0, .ref (ad 0)), (1, .int (nI nd))]) hx hb dX1_rowsIn_3 rfl hl (by decide) rfl (fun ls hl => ?_)
  exact loop 8 0 (by omega) _ _ I ls (lv_sub hl [0, 1, 2, 3] rfl)
set_option maxHeartbeats 4000000 in
set_option maxRecDepth 100000 in
theorem xt_sumIn (nd : Nat) (hnd : nd < 7) : ht_MI l D dA yX1_sumIn (ws_ yX1_sumIn cX1_sumIn 4 (some .int)) 0 0 [.ref (ad 0), .int (nI nd)] (ht_X ad dA (nI ln) (nI cn) (nI tn) bf bb bt bo F T SF SB LV NR RE ND CR CS) (S := Unit) (fun (r : Int32) (_ : Unit) => r = ht_fs CS (nd * 24) 8) (fun _ => ht_X ad dA (nI ln) (nI cn) (nI tn) bf bb bt bo F T SF SB LV NR RE ND CR CS) := by
  refine ht_MI_of (by decide) (Nat.le_of_ble_eq_true rfl) ?_
  intro p e s m below meth c A hx hb hr hlk hml hown hts hK hA I ls hl
  have hown : s.vm.findClass RX1 = some m.cls := hown
  have hl : lv_has ls 4 [(0, .ref (ad 0)), (1, .int (nI nd))] := hl
  have loop : ∀ (n v : Nat), v + n = 8 → ∀ (H : Heap) (locs : List Loc), ht_I D A s.heap (ht_X ad dA (nI ln) (nI cn) (nI tn) bf bb bt bo F T SF SB LV NR RE ND CR CS) H locs → ∀ ls : Array Slot, lv_has ls 4 [(3, .int (nI v)), (2, .int (ht_fs CS (nd * 24) v)), (0, .ref (ad 0)), (1, .int (nI nd))] → W p l e (ht_Rm 0 0) s m ([.ref (ad 0), .int (nI nd)] : List Value).toArray below meth c H locs 0 0 (MQ below (va_Qi (fun (r : Int32) (_ : Unit) => r = ht_fs CS (nd * 24) 8) (fun u t => ht_Po D dA A ((fun _ => ht_X ad dA (nI ln) (nI cn) (nI tn) bf bb bt bo F T SF SB LV NR RE ND CR CS) u) t) A) ([.ref (ad 0), .int (nI nd)] : List Value).toArray s 0 0 A) (F0 m 4 ls []) := by
    intro n
    induction n with
    | zero =>
      intro v hi H locs I ls hl
      refine lv_iload_n hx hb dX1_sumIn_4 rfl (lv_at hl 0 rfl) ?_
      refine lv_bipush (v := nI 8) hx hb dX1_sumIn_5 (by decide) ?_
      refine ht_ge (tgt := 30) hx hb dX1_sumIn_7 (by decide) (by omega) (by omega) (fun c_1 => ?_) (fun c_1 => ?_)
      · refine lv_iload_n hx hb dX1_sumIn_30 rfl (lv_at hl 1 rfl) ?_
        exact ht_iret hx hb hr hlk hK I (w2 := fun _ => ht_X ad dA (nI ln) (nI cn) (nI tn) bf bb bt bo F T SF SB LV NR RE ND CR CS) () (by rw [show v = 8 by omega]) rfl dX1_sumIn_31
      · exact absurd c_1 (by omega)
    | succ n ih =>
      intro v hi H locs I ls hl
      refine lv_iload_n hx hb dX1_sumIn_4 rfl (lv_at hl 0 rfl) ?_
      refine lv_bipush (v := nI 8) hx hb dX1_sumIn_5 (by decide) ?_
      refine ht_ge (tgt := 30) hx hb dX1_sumIn_7 (by decide) (by omega) (by omega) (fun c_2 => ?_) (fun c_2 => ?_)
      · exact absurd c_2 (by omega)
      · refine lv_iload_n hx hb dX1_sumIn_10 rfl (lv_at hl 1 rfl) ?_
        refine lv_aload_n hx hb dX1_sumIn_11 rfl (lv_at hl 2 rfl) ?_
        refine ht_getX hx hb hts hown hK I 12 (by decide) q48 rfl rfl dX1_sumIn_12 ?_
        refine lv_iload_n hx hb dX1_sumIn_15 rfl (lv_at hl 3 rfl) ?_
        refine lv_bipush (v := nI 24) hx hb dX1_sumIn_16 (by decide) ?_
        refine lv_imul hx hb dX1_sumIn_18 ?_
        refine ht_ti (pk_mul nd 24) ?_
        refine lv_iload_n hx hb dX1_sumIn_19 rfl (lv_at hl 0 rfl) ?_
        refine lv_iadd hx hb dX1_sumIn_20 ?_
        refine ht_ti (nI_add (nd * 24) v) ?_
        refine ht_ald hx hb hK I 10 rfl (by omega) dX1_sumIn_21 ?_
        refine lv_iadd hx hb dX1_sumIn_22 ?_
        refine lv_istore_n (lv' := [(2, .int ((ht_fs CS (nd * 24) v) + (CS (nd * 24 + v)))), (3, .int (nI v)), (0, .ref (ad 0)), (1, .int (nI nd))]) hx hb dX1_sumIn_23 rfl hl (by decide) rfl (fun ls hl => ?_)
        refine lv_iinc (v := (nI (v + 1))) (lv' := [(3, .int (nI (v + 1))), (2, .int ((ht_fs CS (nd * 24) v) + (CS (nd * 24 + v)))), (0, .ref (ad 0)), (1, .int (nI nd))]) hx hb dX1_sumIn_24 hl (k := 1) rfl (nI_add v 1) (by decide) rfl (fun ls hl => ?_)
        refine lv_goto (tgt := 4) hx hb dX1_sumIn_27 (by decide) ?_
        exact ih (v + 1) (by omega) _ _ I ls (lv_sub hl [0, 1, 2, 3] rfl)
  refine lv_iconst (v := nI 0) hx hb dX1_sumIn_0 (by decide) ?_
  refine lv_istore_n (lv' := [(2, .int (nI 0)), (0, .ref (ad 0)), (1, .int (nI nd))]) hx hb dX1_sumIn_1 rfl hl (by decide) rfl (fun ls hl => ?_)
  refine lv_iconst (v := nI 0) hx hb dX1_sumIn_2 (by decide) ?_
  refine lv_istore_n (lv' := [(3, .int (nI 0)), (2, .int (nI 0)), (0, .ref (ad 0)), (1, .int (nI nd))]) hx hb dX1_sumIn_3 rfl hl (by decide) rfl (fun ls hl => ?_)
  exact loop 8 0 (by omega) _ _ I ls (lv_sub hl [0, 1, 2, 3] rfl)
end
section
/-! PURE 2: rows, histograms, splits as the programs compute them -/
theorem ht_idx {x : Int32} {n : Nat} (h0 : ¬ x < 0) (h : x < nI n) (hn : n < 2 ^ 31) : ∃ j : Nat, j < n ∧ x = nI j := by
  obtain ⟨j, hj, rfl⟩ := nI_of h0
  exact ⟨j, (nI_ltI hj hn).mp h, rfl⟩
/-- a row's value of a feature, as a number -/
def ht_cn (x f : Int32) : Nat := (ht_cl x f).toNatClampNeg
theorem ht_clN (x f : Int32) : ht_cl x f = nI (ht_cn x f) ∧ ht_cn x f < 8 := by
  obtain ⟨j, hj, e⟩ := pk_andE (x >>> ((nI 3 * f) &&& 31)) (m := nI 7) 3 (by decide)
  have e2 : ht_cl x f = nI j := e
  have e3 : ht_cn x f = j := by unfold ht_cn; rw [e2, nI_clamp (by omega)]
  rw [e3]
  exact ⟨e2, by omega⟩
def ht_restq (SF SB LV F T : Nat → Int32) (cn tn : Nat) (i : Int32) : Int32 := if i < 0 then nI 0 else if i < nI cn then ht_rest SF SB LV F T tn i.toNatClampNeg else nI 0
abbrev ht_f3 : Type := Nat → Int32
def ht_row (cn : Nat) (F T : Nat → Int32) (fe tg : Int32) : Int32 × Nat × ht_f3 × ht_f3 :=
  if tg < (-50) then ((-2), cn, F, T) else if tg ≤ nI 50 then (if cn < 24 then (nI (cn + 1), cn + 1, upd F cn (fe &&& nI 511), upd T cn tg) else ((-3), cn, F, T)) else ((-2), cn, F, T)
def ht_retarget (cn : Nat) (T : Nat → Int32) (i tg : Int32) : Int32 × ht_f3 :=
  if i < 0 then ((-5), T) else if i < nI cn then (if tg < (-50) then ((-2), T) else if tg ≤ nI 50 then (T i.toNatClampNeg, upd T i.toNatClampNeg tg) else ((-2), T)) else ((-5), T)
def ht_drop (tn : Nat) : Int32 × Nat := if tn = 0 then ((-7), 0) else (nI (tn - 1), tn - 1)
/-- 1 where there is no such node, 0 else -/
def ht_non (tn : Nat) (t nd : Int32) : Int32 := if t < 0 then nI 1 else if nI tn ≤ t then nI 1 else if nd < 0 then nI 1 else if nd < nI 7 then nI 0 else nI 1
theorem ht_non_0 {tn : Nat} {t nd : Int32} (h : ht_non tn t nd = 0) (htn : tn < 2 ^ 31) : ∃ a b : Nat, a < tn ∧ b < 7 ∧ t = nI a ∧ nd = nI b := by
  unfold ht_non at h
  by_cases c1 : t < 0
  · rw [if_pos c1] at h; exact absurd h (by decide)
  rw [if_neg c1] at h
  by_cases c2 : nI tn ≤ t
  · rw [if_pos c2] at h; exact absurd h (by decide)
  rw [if_neg c2] at h
  by_cases c3 : nd < 0
  · rw [if_pos c3] at h; exact absurd h (by decide)
  rw [if_neg c3] at h
  by_cases c4 : nd < nI 7
  · obtain ⟨a, ha, rfl⟩ := nI_of c1
    obtain ⟨b, hb, rfl⟩ := ht_idx c3 c4 (by decide)
    exact ⟨a, b, Nat.lt_of_not_le (fun q => c2 (nI_le q ha)), hb, rfl, rfl⟩
  · rw [if_neg c4] at h; exact absurd h (by decide)
def ht_ask (A : Nat → Int32) (tn : Nat) (t nd : Int32) : Int32 := if ht_non tn t nd = 0 then A (t.toNatClampNeg * 7 + nd.toNatClampNeg) else (-5)
def ht_bound (SF SB : Nat → Int32) (tn : Nat) (t nd : Int32) : Int32 := if ht_non tn t nd = 0 then (if 0 ≤ SF (t.toNatClampNeg * 7 + nd.toNatClampNeg) then SB (t.toNatClampNeg * 7 + nd.toNatClampNeg) else SF (t.toNatClampNeg * 7 + nd.toNatClampNeg)) else (-5)
def ht_value (SF LV : Nat → Int32) (tn : Nat) (t nd : Int32) : Int32 := if ht_non tn t nd = 0 then (if SF (t.toNatClampNeg * 7 + nd.toNatClampNeg) = (-6) then LV (t.toNatClampNeg * 7 + nd.toNatClampNeg) else nI 0) else nI 0
def ht_dv (s n : Int32) : Int32 := if n ≤ 0 then nI 0 else s / n
/-- one row into its node's cells: k features done -/
def ht_ad (f : Nat → Int32) (x : Int32) (nd : Nat) (d : Int32) : Nat → ht_f3
  | 0 => f
  | k + 1 => upd (ht_ad f x nd d k) (nd * 24 + k * 8 + ht_cn x (nI k)) (ht_ad f x nd d k (nd * 24 + k * 8 + ht_cn x (nI k)) + d)
/-- a node's cells out of the first i rows -/
def ht_fr (f F ND : Nat → Int32) (d : Nat → Int32) (nd : Nat) : Nat → ht_f3
  | 0 => ht_put f (nd * 24) 24 (fun _ => nI 0)
  | i + 1 => if ND i = nI nd then ht_ad (ht_fr f F ND d nd i) (F i) nd (d i) 3 else ht_fr f F ND d nd i
/-- a node's cells: the parent's less the other's -/
def ht_fp (f : Nat → Int32) (nd pa ot : Nat) : ht_f3 := ht_put f (nd * 24) 24 (fun j => f (pa * 24 + (j - nd * 24)) - f (ot * 24 + (j - nd * 24)))
abbrev ht_B : Type := Int32 × Int32 × Int64 × Int64
def ht_try (lz : Int32) (B : ht_B) (f b : Int32) (nl sl n s : Int64) : ht_B :=
  if nl < lz.toInt64 then B else if lz.toInt64 ≤ n - nl then
    (if B.1 < 0 then (f, b, sl * sl * (n - nl) + (s - sl) * (s - sl) * nl, nl * (n - nl)) else
      if B.2.2.1 * (nl * (n - nl)) < (sl * sl * (n - nl) + (s - sl) * (s - sl) * nl) * B.2.2.2 then (f, b, sl * sl * (n - nl) + (s - sl) * (s - sl) * nl, nl * (n - nl)) else B) else B
def ht_fold (lz : Int32) (CR CS : Nat → Int32) (nd : Nat) (n s : Int32) (B : ht_B) : Nat → ht_B
  | 0 => B
  | c + 1 => ht_try lz (ht_fold lz CR CS nd n s B c) (nI (c / 7)) (nI (c % 7)) (ht_fs CR (nd * 24 + c / 7 * 8) (c % 7 + 1)).toInt64 (ht_fs CS (nd * 24 + c / 7 * 8) (c % 7 + 1)).toInt64 n.toInt64 s.toInt64
theorem ht_fold_s (lz : Int32) (CR CS : Nat → Int32) (nd : Nat) (n s : Int32) (B : ht_B) (f b : Nat) (hb : b < 7) : ht_fold lz CR CS nd n s B (f * 7 + b + 1) = ht_try lz (ht_fold lz CR CS nd n s B (f * 7 + b)) (nI f) (nI b) (ht_fs CR (nd * 24 + f * 8) (b + 1)).toInt64 (ht_fs CS (nd * 24 + f * 8) (b + 1)).toInt64 n.toInt64 s.toInt64 := by
  have e1 : (f * 7 + b) / 7 = f := by omega
  have e2 : (f * 7 + b) % 7 = b := by omega
  show ht_try lz (ht_fold lz CR CS nd n s B (f * 7 + b)) (nI ((f * 7 + b) / 7)) (nI ((f * 7 + b) % 7)) (ht_fs CR (nd * 24 + (f * 7 + b) / 7 * 8) ((f * 7 + b) % 7 + 1)).toInt64 (ht_fs CS (nd * 24 + (f * 7 + b) / 7 * 8) ((f * 7 + b) % 7 + 1)).toInt64 n.toInt64 s.toInt64 = _
  rw [e1, e2]
/-- a node's split or leaf: the answer and the tree's new cells -/
abbrev ht_N : Type := Int32 × ht_f3 × ht_f3 × ht_f3
def ht_sn (SF SB LV : Nat → Int32) (a : Nat) (n s : Int32) (B : ht_B) : ht_N :=
  if B.1 < 0 then (nI 0, upd SF a (-6), SB, upd LV a (ht_dv s n)) else
  if s.toInt64 * s.toInt64 * B.2.2.2 < B.2.2.1 * n.toInt64 then (nI 1, upd SF a B.1, upd SB a B.2.1, upd LV a (nI 0)) else (nI 0, upd SF a (-6), SB, upd LV a (ht_dv s n))
def ht_best (lz : Int32) (CR CS : Nat → Int32) (nd : Nat) (n s : Int32) (B : ht_B) : ht_B := if nd < 3 then ht_fold lz CR CS nd n s ((-1), B.2.1, B.2.2.1, B.2.2.2) 21 else ((-1), B.2.1, B.2.2.1, B.2.2.2)
/-- the first i rows of a node go to its parts -/
def ht_send (F ND : Nat → Int32) (fv bv : Int32) (nd i : Nat) : ht_f3 := fun j => if j < i ∧ ND j = nI nd then (if bv < ht_cl (F j) fv then nI (2 * nd + 2) else nI (2 * nd + 1)) else ND j
theorem ht_send_0 {F ND : Nat → Int32} {fv bv : Int32} {nd : Nat} : ht_send F ND fv bv nd 0 = ND := by
  funext j
  exact if_neg (by omega)
theorem ht_send_at {F ND : Nat → Int32} {fv bv : Int32} {nd i : Nat} : ht_send F ND fv bv nd i i = ND i := if_neg (by omega)
theorem ht_send_k {F ND : Nat → Int32} {fv bv : Int32} {nd i : Nat} (h : ¬ ND i = nI nd) : ht_send F ND fv bv nd (i + 1) = ht_send F ND fv bv nd i := by
  funext j
  unfold ht_send
  by_cases e : j = i
  · rw [if_neg (by rw [e]; exact fun q => h q.2), if_neg (by omega)]
  · by_cases e2 : j < i
    · by_cases e3 : ND j = nI nd
      · rw [if_pos (show j < i + 1 ∧ ND j = nI nd from ⟨by omega, e3⟩), if_pos (show j < i ∧ ND j = nI nd from ⟨e2, e3⟩)]
      · rw [if_neg (fun q => e3 q.2), if_neg (fun q => e3 q.2)]
    · rw [if_neg (by omega), if_neg (by omega)]
theorem ht_send_s {F ND : Nat → Int32} {fv bv : Int32} {nd i : Nat} (h : ND i = nI nd) {x : Int32} (hx : x = if bv < ht_cl (F i) fv then nI (2 * nd + 2) else nI (2 * nd + 1)) : upd (ht_send F ND fv bv nd i) i x = ht_send F ND fv bv nd (i + 1) := by
  funext j
  unfold upd ht_send
  by_cases e : j = i
  · subst e
    rw [if_pos rfl, if_pos ⟨by omega, h⟩, hx]
  · rw [if_neg e]
    by_cases e2 : j < i
    · by_cases e3 : ND j = nI nd
      · rw [if_pos (show j < i ∧ ND j = nI nd from ⟨e2, e3⟩), if_pos (show j < i + 1 ∧ ND j = nI nd from ⟨by omega, e3⟩)]
      · rw [if_neg (fun q => e3 q.2), if_neg (fun q => e3 q.2)]
    · rw [if_neg (by omega), if_neg (by omega)]
end
section
variable (l : Launch) (D : va_G) (dA : ClassId) (ad : Nat → Nat) (ln cn tn : Nat) (bf bb : Int32) (bt bo : Int64) (F T SF SB LV NR RE ND CR CS : Nat → Int32)
set_option maxHeartbeats 4000000 in
set_option maxRecDepth 100000 in
theorem xt_rest (i : Int32) (htn : tn ≤ 4) (hcn : cn ≤ 24) : ht_MI l D dA yX1_rest (ws_ yX1_rest cX1_rest 2 (some .int)) 4 92 [.ref (ad 0), .int i] (ht_X ad dA (nI ln) (nI cn) (nI tn) bf bb bt bo F T SF SB LV NR RE ND CR CS) (S := Unit) (fun (r : Int32) (_ : Unit) => r = ht_restq SF SB LV F T cn tn i) (fun _ => ht_X ad dA (nI ln) (nI cn) (nI tn) bf bb bt bo F T SF SB LV NR RE ND CR CS) := by
  refine ht_MI_of (by decide) (Nat.le_of_ble_eq_true rfl) ?_
  intro p e s m below meth c A hx hb hr hlk hml hown hts hK hA I ls hl
  have hown : s.vm.findClass RX1 = some m.cls := hown
  have hl : lv_has ls 2 [(0, .ref (ad 0)), (1, .int i)] := hl
  refine lv_iload_n hx hb dX1_rest_0 rfl (lv_at hl 1 rfl) ?_
  refine lv_if_lt (tgt := 12) hx hb dX1_rest_1 (by decide) (fun c_1 => ?_) (fun c_1 => ?_)
  · refine lv_iconst (v := nI 0) hx hb dX1_rest_12 (by decide) ?_
    refine lv_goto (tgt := 21) hx hb dX1_rest_13 (by decide) ?_
    exact ht_iret hx hb hr hlk hK I (w2 := fun _ => ht_X ad dA (nI ln) (nI cn) (nI tn) bf bb bt bo F T SF SB LV NR RE ND CR CS) () (by unfold ht_restq; rw [if_pos c_1]) rfl dX1_rest_21
  · refine lv_iload_n hx hb dX1_rest_4 rfl (lv_at hl 1 rfl) ?_
    refine lv_aload_n hx hb dX1_rest_5 rfl (lv_at hl 0 rfl) ?_
    refine ht_getX hx hb hts hown hK I 1 (by decide) q37 rfl rfl dX1_rest_6 ?_
    refine lv_icmp_lt (tgt := 16) hx hb dX1_rest_9 (by decide) (fun c_2 => ?_) (fun c_2 => ?_)
    · obtain ⟨j, hj, rfl⟩ := ht_idx c_1 c_2 (by omega)
      refine lv_aload_n hx hb dX1_rest_16 rfl (lv_at hl 0 rfl) ?_
      refine lv_iload_n hx hb dX1_rest_17 rfl (lv_at hl 1 rfl) ?_
      refine ht_callVi (As := [.int (nI j)]) (rest := []) (wr := []) (q0 := 0) (ci := 0) hx hb hml hown hts hK hA I (xt_restOf l D dA ad ln cn tn bf bb bt bo F T SF SB LV NR RE ND CR CS j htn (by omega)) (cwV 1 hts (lw_V q101 q103 qs0 q26 q104) rfl rfl rfl (by decide +kernel) (by decide)) rfl rfl [0, 1, 2, 3, 4, 5, 6, 7, 8, 9, 10] [] rfl rfl (by decide) (by decide) (by decide) rfl hl.1 rfl (Nat.le_of_ble_eq_true rfl) dX1_rest_18 (by decide) (fun r u H locs hp I => ?_)
      subst hp
      have I : ht_I D A s.heap (ht_X ad dA (nI ln) (nI cn) (nI tn) bf bb bt bo F T SF SB LV NR RE ND CR CS) H locs := I
      exact ht_iret hx hb hr hlk hK I (w2 := fun _ => ht_X ad dA (nI ln) (nI cn) (nI tn) bf bb bt bo F T SF SB LV NR RE ND CR CS) () (by unfold ht_restq; rw [if_neg c_1, if_pos c_2, nI_clamp (by omega)]) rfl dX1_rest_21
    · refine lv_iconst (v := nI 0) hx hb dX1_rest_12 (by decide) ?_
      refine lv_goto (tgt := 21) hx hb dX1_rest_13 (by decide) ?_
      exact ht_iret hx hb hr hlk hK I (w2 := fun _ => ht_X ad dA (nI ln) (nI cn) (nI tn) bf bb bt bo F T SF SB LV NR RE ND CR CS) () (by unfold ht_restq; rw [if_neg c_1, if_neg c_2]) rfl dX1_rest_21
set_option maxHeartbeats 4000000 in
set_option maxRecDepth 100000 in
theorem xt_loss (htn : tn ≤ 4) (hcn : cn ≤ 24) : ht_MI l D dA yX1_loss (ws_ yX1_loss cX1_loss 4 (some .int)) 4 92 [.ref (ad 0)] (ht_X ad dA (nI ln) (nI cn) (nI tn) bf bb bt bo F T SF SB LV NR RE ND CR CS) (S := Unit) (fun (r : Int32) (_ : Unit) => r = ht_loss SF SB LV F T tn cn) (fun _ => ht_X ad dA (nI ln) (nI cn) (nI tn) bf bb bt bo F T SF SB LV NR RE ND CR CS) := by
  refine ht_MI_of (by decide) (Nat.le_of_ble_eq_true rfl) ?_
  intro p e s m below meth c A hx hb hr hlk hml hown hts hK hA I ls hl
  have hown : s.vm.findClass RX1 = some m.cls := hown
  have hl : lv_has ls 4 [(0, .ref (ad 0))] := hl
  have loop : ∀ (n i : Nat), i + n = cn → ∀ (H : Heap) (locs : List Loc), ht_I D A s.heap (ht_X ad dA (nI ln) (nI cn) (nI tn) bf bb bt bo F T SF SB LV NR RE ND CR CS) H locs → ∀ ls : Array Slot, lv_has ls 4 [(2, .int (nI i)), (1, .int (ht_loss SF SB LV F T tn i)), (0, .ref (ad 0))] → W p l e (ht_Rm 4 92) s m ([.ref (ad 0)] : List Value).toArray below meth c H locs 0 0 (MQ below (va_Qi (fun (r : Int32) (_ : Unit) => r = ht_loss SF SB LV F T tn cn) (fun u t => ht_Po D dA A ((fun _ => ht_X ad dA (nI ln) (nI cn) (nI tn) bf bb bt bo F T SF SB LV NR RE ND CR CS) u) t) A) ([.ref (ad 0)] : List Value).toArray s 0 0 A) (F0 m 4 ls []) := by
    intro n
    induction n with
    | zero =>
      intro i hi H locs I ls hl
      refine lv_iload_n hx hb dX1_loss_4 rfl (lv_at hl 0 rfl) ?_
      refine lv_aload_n hx hb dX1_loss_5 rfl (lv_at hl 2 rfl) ?_
      refine ht_getX hx hb hts hown hK I 1 (by decide) q37 rfl rfl dX1_loss_6 ?_
      refine ht_ge (tgt := 30) hx hb dX1_loss_9 (by decide) (by omega) (by omega) (fun c_1 => ?_) (fun c_1 => ?_)
      · refine lv_iload_n hx hb dX1_loss_30 rfl (lv_at hl 1 rfl) ?_
        exact ht_iret hx hb hr hlk hK I (w2 := fun _ => ht_X ad dA (nI ln) (nI cn) (nI tn) bf bb bt bo F T SF SB LV NR RE ND CR CS) () (by rw [show i = cn by omega]) rfl dX1_loss_31
      · exact absurd c_1 (by omega)
    | succ n ih =>
      intro i hi H locs I ls hl
      refine lv_iload_n hx hb dX1_loss_4 rfl (lv_at hl 0 rfl) ?_
      refine lv_aload_n hx hb dX1_loss_5 rfl (lv_at hl 2 rfl) ?_
      refine ht_getX hx hb hts hown hK I 1 (by decide) q37 rfl rfl dX1_loss_6 ?_
      refine ht_ge (tgt := 30) hx hb dX1_loss_9 (by decide) (by omega) (by omega) (fun c_2 => ?_) (fun c_2 => ?_)
      · exact absurd c_2 (by omega)
      · refine lv_aload_n hx hb dX1_loss_12 rfl (lv_at hl 2 rfl) ?_
        refine lv_iload_n hx hb dX1_loss_13 rfl (lv_at hl 0 rfl) ?_
        refine ht_callVi (As := [.int (nI i)]) (rest := []) (wr := []) (q0 := 0) (ci := 0) hx hb hml hown hts hK hA I (xt_restOf l D dA ad ln cn tn bf bb bt bo F T SF SB LV NR RE ND CR CS i htn (by omega)) (cwV 1 hts (lw_V q101 q103 qs0 q26 q104) rfl rfl rfl (by decide +kernel) (by decide)) rfl rfl [0, 1, 2, 3, 4, 5, 6, 7, 8, 9, 10] [] rfl rfl (by decide) (by decide) (by decide) rfl hl.1 rfl (Nat.le_of_ble_eq_true rfl) dX1_loss_14 (by decide) (fun r u H locs hp I => ?_)
        subst hp
        have I : ht_I D A s.heap (ht_X ad dA (nI ln) (nI cn) (nI tn) bf bb bt bo F T SF SB LV NR RE ND CR CS) H locs := I
        refine lv_istore_n (lv' := [(3, .int (ht_rest SF SB LV F T tn i)), (2, .int (nI i)), (1, .int (ht_loss SF SB LV F T tn i)), (0, .ref (ad 0))]) hx hb dX1_loss_17 rfl hl (by decide) rfl (fun ls hl => ?_)
        refine lv_iload_n hx hb dX1_loss_18 rfl (lv_at hl 2 rfl) ?_
        refine lv_iload_n hx hb dX1_loss_19 rfl (lv_at hl 0 rfl) ?_
        refine lv_iload_n hx hb dX1_loss_20 rfl (lv_at hl 0 rfl) ?_
        refine lv_imul hx hb dX1_loss_21 ?_
        refine lv_iadd hx hb dX1_loss_22 ?_
        refine lv_istore_n (lv' := [(1, .int ((ht_loss SF SB LV F T tn i) + ((ht_rest SF SB LV F T tn i) * (ht_rest SF SB LV F T tn i)))), (3, .int (ht_rest SF SB LV F T tn i)), (2, .int (nI i)), (0, .ref (ad 0))]) hx hb dX1_loss_23 rfl hl (by decide) rfl (fun ls hl => ?_)
        refine lv_iinc (v := (nI (i + 1))) (lv' := [(2, .int (nI (i + 1))), (1, .int ((ht_loss SF SB LV F T tn i) + ((ht_rest SF SB LV F T tn i) * (ht_rest SF SB LV F T tn i)))), (3, .int (ht_rest SF SB LV F T tn i)), (0, .ref (ad 0))]) hx hb dX1_loss_24 hl (k := 2) rfl (nI_add i 1) (by decide) rfl (fun ls hl => ?_)
        refine lv_goto (tgt := 4) hx hb dX1_loss_27 (by decide) ?_
        exact ih (i + 1) (by omega) _ _ I ls (lv_sub hl [0, 1, 3] rfl)
  refine lv_iconst (v := nI 0) hx hb dX1_loss_0 (by decide) ?_
  refine lv_istore_n (lv' := [(1, .int (nI 0)), (0, .ref (ad 0))]) hx hb dX1_loss_1 rfl hl (by decide) rfl (fun ls hl => ?_)
  refine lv_iconst (v := nI 0) hx hb dX1_loss_2 (by decide) ?_
  refine lv_istore_n (lv' := [(2, .int (nI 0)), (1, .int (nI 0)), (0, .ref (ad 0))]) hx hb dX1_loss_3 rfl hl (by decide) rfl (fun ls hl => ?_)
  exact loop cn 0 (by omega) _ _ I ls (lv_sub hl [0, 1, 2] rfl)
set_option maxHeartbeats 4000000 in
set_option maxRecDepth 100000 in
theorem xt_clearCells (nd : Nat) (hnd : nd < 7) : ht_MV l D dA yX1_clearCells (ws_ yX1_clearCells cX1_clearCells 3 none) 0 0 [.ref (ad 0), .int (nI nd)] (ht_X ad dA (nI ln) (nI cn) (nI tn) bf bb bt bo F T SF SB LV NR RE ND CR CS) (S := Unit) (fun (_ : Unit) => True) (fun _ => ht_X ad dA (nI ln) (nI cn) (nI tn) bf bb bt bo F T SF SB LV NR RE ND (ht_put CR (nd * 24) 24 (fun _ => nI 0)) (ht_put CS (nd * 24) 24 (fun _ => nI 0))) := by
  refine ht_MV_of (by decide) (Nat.le_of_ble_eq_true rfl) ?_
  intro p e s m below meth c A hx hb hr hlk hml hown hts hK hA I ls hl
  have hown : s.vm.findClass RX1 = some m.cls := hown
  have hl : lv_has ls 3 [(0, .ref (ad 0)), (1, .int (nI nd))] := hl
  have loop : ∀ (n i : Nat), i + n = 24 → ∀ (H : Heap) (locs : List Loc), ht_I D A s.heap (ht_X ad dA (nI ln) (nI cn) (nI tn) bf bb bt bo F T SF SB LV NR RE ND (ht_put CR (nd * 24) i (fun _ => nI 0)) (ht_put CS (nd * 24) i (fun _ => nI 0))) H locs → ∀ ls : Array Slot, lv_has ls 3 [(2, .int (nI i)), (0, .ref (ad 0)), (1, .int (nI nd))] → W p l e (ht_Rm 0 0) s m ([.ref (ad 0), .int (nI nd)] : List Value).toArray below meth c H locs 0 0 (MQ below (va_Qv (fun (_ : Unit) => True) (fun u t => ht_Po D dA A ((fun _ => ht_X ad dA (nI ln) (nI cn) (nI tn) bf bb bt bo F T SF SB LV NR RE ND (ht_put CR (nd * 24) 24 (fun _ => nI 0)) (ht_put CS (nd * 24) 24 (fun _ => nI 0))) u) t) A) ([.ref (ad 0), .int (nI nd)] : List Value).toArray s 0 0 A) (F0 m 2 ls []) := by
    intro n
    induction n with
    | zero =>
      intro i hi H locs I ls hl
      refine lv_iload_n hx hb dX1_clearCells_2 rfl (lv_at hl 0 rfl) ?_
      refine lv_bipush (v := nI 24) hx hb dX1_clearCells_3 (by decide) ?_
      refine ht_ge (tgt := 38) hx hb dX1_clearCells_5 (by decide) (by omega) (by omega) (fun c_1 => ?_) (fun c_1 => ?_)
      · exact ht_vret hx hb hr hlk hK I (w2 := fun _ => ht_X ad dA (nI ln) (nI cn) (nI tn) bf bb bt bo F T SF SB LV NR RE ND (ht_put CR (nd * 24) 24 (fun _ => nI 0)) (ht_put CS (nd * 24) 24 (fun _ => nI 0))) () trivial (by rw [show i = 24 by omega]) dX1_clearCells_38
      · exact absurd c_1 (by omega)
    | succ n ih =>
      intro i hi H locs I ls hl
      refine lv_iload_n hx hb dX1_clearCells_2 rfl (lv_at hl 0 rfl) ?_
      refine lv_bipush (v := nI 24) hx hb dX1_clearCells_3 (by decide) ?_
      refine ht_ge (tgt := 38) hx hb dX1_clearCells_5 (by decide) (by omega) (by omega) (fun c_2 => ?_) (fun c_2 => ?_)
      · exact absurd c_2 (by omega)
      · refine lv_aload_n hx hb dX1_clearCells_8 rfl (lv_at hl 1 rfl) ?_
        refine ht_getX hx hb hts hown hK I 11 (by decide) q47 rfl rfl dX1_clearCells_9 ?_
        refine lv_iload_n hx hb dX1_clearCells_12 rfl (lv_at hl 2 rfl) ?_
        refine lv_bipush (v := nI 24) hx hb dX1_clearCells_13 (by decide) ?_
        refine lv_imul hx hb dX1_clearCells_15 ?_
        refine ht_ti (pk_mul nd 24) ?_
        refine lv_iload_n hx hb dX1_clearCells_16 rfl (lv_at hl 0 rfl) ?_
        refine lv_iadd hx hb dX1_clearCells_17 ?_
        refine ht_ti (nI_add (nd * 24) i) ?_
        refine lv_iconst (v := nI 0) hx hb dX1_clearCells_18 (by decide) ?_
        refine ht_ast (w3 := ht_X ad dA (nI ln) (nI cn) (nI tn) bf bb bt bo F T SF SB LV NR RE ND (upd (ht_put CR (nd * 24) i (fun _ => nI 0)) (nd * 24 + i) (nI 0)) (ht_put CS (nd * 24) i (fun _ => nI 0))) hx hb hK I 9 rfl (by omega) rfl dX1_clearCells_19 (fun H locs I => ?_)
        refine lv_aload_n hx hb dX1_clearCells_20 rfl (lv_at hl 1 rfl) ?_
        refine ht_getX hx hb hts hown hK I 12 (by decide) q48 rfl rfl dX1_clearCells_21 ?_
        refine lv_iload_n hx hb dX1_clearCells_24 rfl (lv_at hl 2 rfl) ?_
        refine lv_bipush (v := nI 24) hx hb dX1_clearCells_25 (by decide) ?_
        refine lv_imul hx hb dX1_clearCells_27 ?_
        refine ht_ti (pk_mul nd 24) ?_
        refine lv_iload_n hx hb dX1_clearCells_28 rfl (lv_at hl 0 rfl) ?_
        refine lv_iadd hx hb dX1_clearCells_29 ?_
        refine ht_ti (nI_add (nd * 24) i) ?_
        refine lv_iconst (v := nI 0) hx hb dX1_clearCells_30 (by decide) ?_
        refine ht_ast (w3 := ht_X ad dA (nI ln) (nI cn) (nI tn) bf bb bt bo F T SF SB LV NR RE ND (upd (ht_put CR (nd * 24) i (fun _ => nI 0)) (nd * 24 + i) (nI 0)) (upd (ht_put CS (nd * 24) i (fun _ => nI 0)) (nd * 24 + i) (nI 0))) hx hb hK I 10 rfl (by omega) rfl dX1_clearCells_31 (fun H locs I => ?_)
        refine lv_iinc (v := (nI (i + 1))) (lv' := [(2, .int (nI (i + 1))), (0, .ref (ad 0)), (1, .int (nI nd))]) hx hb dX1_clearCells_32 hl (k := 0) rfl (nI_add i 1) (by decide) rfl (fun ls hl => ?_)
        refine lv_goto (tgt := 2) hx hb dX1_clearCells_35 (by decide) ?_
        rw [ht_put_s (g := fun _ => nI 0) rfl, ht_put_s (g := fun _ => nI 0) rfl] at I
        exact ih (i + 1) (by omega) _ _ I ls (lv_sub hl [0, 1, 2] rfl)
  refine lv_iconst (v := nI 0) hx hb dX1_clearCells_0 (by decide) ?_
  refine lv_istore_n (lv' := [(2, .int (nI 0)), (0, .ref (ad 0)), (1, .int (nI nd))]) hx hb dX1_clearCells_1 rfl hl (by decide) rfl (fun ls hl => ?_)
  have I := I.to (w3 := ht_X ad dA (nI ln) (nI cn) (nI tn) bf bb bt bo F T SF SB LV NR RE ND (ht_put CR (nd * 24) 0 (fun _ => nI 0)) (ht_put CS (nd * 24) 0 (fun _ => nI 0))) (by rw [ht_put_0, ht_put_0])
  exact loop 24 0 (by omega) _ _ I ls (lv_sub hl [0, 1, 2] rfl)
set_option maxHeartbeats 4000000 in
set_option maxRecDepth 100000 in
theorem xt_addRow (nd i : Nat) (hnd : nd < 7) (hi : i < 24) : ht_MV l D dA yX1_addRow (ws_ yX1_addRow cX1_addRow 5 none) 1 21 [.ref (ad 0), .int (nI nd), .int (nI i)] (ht_X ad dA (nI ln) (nI cn) (nI tn) bf bb bt bo F T SF SB LV NR RE ND CR CS) (S := Unit) (fun (_ : Unit) => True) (fun _ => ht_X ad dA (nI ln) (nI cn) (nI tn) bf bb bt bo F T SF SB LV NR RE ND (ht_ad CR (F i) nd (nI 1) 3) (ht_ad CS (F i) nd (RE i) 3)) := by
  refine ht_MV_of (by decide) (Nat.le_of_ble_eq_true rfl) ?_
  intro p e s m below meth c A hx hb hr hlk hml hown hts hK hA I ls hl
  have hown : s.vm.findClass RX1 = some m.cls := hown
  have hl : lv_has ls 5 [(0, .ref (ad 0)), (1, .int (nI nd)), (2, .int (nI i))] := hl
  have loop : ∀ (n k : Nat), k + n = 3 → ∀ (H : Heap) (locs : List Loc), ht_I D A s.heap (ht_X ad dA (nI ln) (nI cn) (nI tn) bf bb bt bo F T SF SB LV NR RE ND (ht_ad CR (F i) nd (nI 1) k) (ht_ad CS (F i) nd (RE i) k)) H locs → ∀ ls : Array Slot, lv_has ls 5 [(3, .int (nI k)), (0, .ref (ad 0)), (1, .int (nI nd)), (2, .int (nI i))] → W p l e (ht_Rm 1 21) s m ([.ref (ad 0), .int (nI nd), .int (nI i)] : List Value).toArray below meth c H locs 0 0 (MQ below (va_Qv (fun (_ : Unit) => True) (fun u t => ht_Po D dA A ((fun _ => ht_X ad dA (nI ln) (nI cn) (nI tn) bf bb bt bo F T SF SB LV NR RE ND (ht_ad CR (F i) nd (nI 1) 3) (ht_ad CS (F i) nd (RE i) 3)) u) t) A) ([.ref (ad 0), .int (nI nd), .int (nI i)] : List Value).toArray s 0 0 A) (F0 m 2 ls []) := by
    intro n
    induction n with
    | zero =>
      intro k hk H locs I ls hl
      refine lv_iload_n hx hb dX1_addRow_2 rfl (lv_at hl 0 rfl) ?_
      refine lv_iconst (v := nI 3) hx hb dX1_addRow_3 (by decide) ?_
      refine ht_ge (tgt := 62) hx hb dX1_addRow_4 (by decide) (by omega) (by omega) (fun c_1 => ?_) (fun c_1 => ?_)
      · exact ht_vret hx hb hr hlk hK I (w2 := fun _ => ht_X ad dA (nI ln) (nI cn) (nI tn) bf bb bt bo F T SF SB LV NR RE ND (ht_ad CR (F i) nd (nI 1) 3) (ht_ad CS (F i) nd (RE i) 3)) () trivial (by rw [show k = 3 by omega]) dX1_addRow_62
      · exact absurd c_1 (by omega)
    | succ n ih =>
      intro k hk H locs I ls hl
      refine lv_iload_n hx hb dX1_addRow_2 rfl (lv_at hl 0 rfl) ?_
      refine lv_iconst (v := nI 3) hx hb dX1_addRow_3 (by decide) ?_
      refine ht_ge (tgt := 62) hx hb dX1_addRow_4 (by decide) (by omega) (by omega) (fun c_2 => ?_) (fun c_2 => ?_)
      · exact absurd c_2 (by omega)
      · refine lv_iload_n hx hb dX1_addRow_7 rfl (lv_at hl 2 rfl) ?_
        refine lv_bipush (v := nI 24) hx hb dX1_addRow_8 (by decide) ?_
        refine lv_imul hx hb dX1_addRow_10 ?_
        refine ht_ti (pk_mul nd 24) ?_
        refine lv_iload_n hx hb dX1_addRow_11 rfl (lv_at hl 0 rfl) ?_
        refine lv_bipush (v := nI 8) hx hb dX1_addRow_12 (by decide) ?_
        refine lv_imul hx hb dX1_addRow_14 ?_
        refine ht_ti (pk_mul k 8) ?_
        refine lv_iadd hx hb dX1_addRow_15 ?_
        refine ht_ti (nI_add (nd * 24) (k * 8)) ?_
        refine lv_aload_n hx hb dX1_addRow_16 rfl (lv_at hl 1 rfl) ?_
        refine ht_getX hx hb hts hown hK I 2 (by decide) q38 rfl rfl dX1_addRow_17 ?_
        refine lv_iload_n hx hb dX1_addRow_20 rfl (lv_at hl 3 rfl) ?_
        refine ht_ald hx hb hK I 1 rfl (by omega) dX1_addRow_21 ?_
        refine lv_iload_n hx hb dX1_addRow_22 rfl (lv_at hl 0 rfl) ?_
        refine ht_callSi (As := [.int (F i), .int (nI k)]) (rest := [.int (nI (nd * 24 + (k * 8)))]) (wr := ht_X ad dA (nI ln) (nI cn) (nI tn) bf bb bt bo F T SF SB LV NR RE ND (ht_ad CR (F i) nd (nI 1) k) (ht_ad CS (F i) nd (RE i) k)) hx hb hml hown hts hK hA I (xt_featureOf l D dA (F i) (nI k)) (va_cwS 2 hts (lw_S q113 q114 q26 q115) rfl rfl rfl (by decide +kernel) (by decide)) [0, 1, 2, 3, 4, 5, 6, 7, 8, 9, 10] rfl (by decide) rfl hl.1 rfl (Nat.le_of_ble_eq_true rfl) dX1_addRow_23 (by decide) (fun r u H locs hp I => ?_)
        subst hp
        refine ht_ti (ht_clN (F i) (nI k)).1 ?_
        have hc8 := (ht_clN (F i) (nI k)).2
        have I : ht_I D A s.heap (ht_X ad dA (nI ln) (nI cn) (nI tn) bf bb bt bo F T SF SB LV NR RE ND (ht_ad CR (F i) nd (nI 1) k) (ht_ad CS (F i) nd (RE i) k)) H locs := I
        refine lv_iadd hx hb dX1_addRow_26 ?_
        refine ht_ti (nI_add (nd * 24 + (k * 8)) (ht_cn (F i) (nI k))) ?_
        refine lv_istore (lv' := [(4, .int (nI (nd * 24 + (k * 8) + (ht_cn (F i) (nI k))))), (3, .int (nI k)), (0, .ref (ad 0)), (1, .int (nI nd)), (2, .int (nI i))]) hx hb dX1_addRow_27 hl (by decide) rfl (fun ls hl => ?_)
        refine lv_aload_n hx hb dX1_addRow_29 rfl (lv_at hl 2 rfl) ?_
        refine ht_getX hx hb hts hown hK I 11 (by decide) q47 rfl rfl dX1_addRow_30 ?_
        refine lv_iload hx hb dX1_addRow_33 (lv_at hl 0 rfl) ?_
        refine lv_dup2_11 hx hb dX1_addRow_35 rfl rfl ?_
        refine ht_ald hx hb hK I 9 rfl (by omega) dX1_addRow_36 ?_
        refine lv_iconst (v := nI 1) hx hb dX1_addRow_37 (by decide) ?_
        refine lv_iadd hx hb dX1_addRow_38 ?_
        refine ht_ast (w3 := ht_X ad dA (nI ln) (nI cn) (nI tn) bf bb bt bo F T SF SB LV NR RE ND (upd (ht_ad CR (F i) nd (nI 1) k) (nd * 24 + (k * 8) + (ht_cn (F i) (nI k))) (((ht_ad CR (F i) nd (nI 1) k) (nd * 24 + (k * 8) + (ht_cn (F i) (nI k)))) + (nI 1))) (ht_ad CS (F i) nd (RE i) k)) hx hb hK I 9 rfl (by omega) rfl dX1_addRow_39 (fun H locs I => ?_)
        refine lv_aload_n hx hb dX1_addRow_40 rfl (lv_at hl 2 rfl) ?_
        refine ht_getX hx hb hts hown hK I 12 (by decide) q48 rfl rfl dX1_addRow_41 ?_
        refine lv_iload hx hb dX1_addRow_44 (lv_at hl 0 rfl) ?_
        refine lv_dup2_11 hx hb dX1_addRow_46 rfl rfl ?_
        refine ht_ald hx hb hK I 10 rfl (by omega) dX1_addRow_47 ?_
        refine lv_aload_n hx hb dX1_addRow_48 rfl (lv_at hl 2 rfl) ?_
        refine ht_getX hx hb hts hown hK I 9 (by decide) q45 rfl rfl dX1_addRow_49 ?_
        refine lv_iload_n hx hb dX1_addRow_52 rfl (lv_at hl 4 rfl) ?_
        refine ht_ald hx hb hK I 7 rfl (by omega) dX1_addRow_53 ?_
        refine lv_iadd hx hb dX1_addRow_54 ?_
        refine ht_ast (w3 := ht_X ad dA (nI ln) (nI cn) (nI tn) bf bb bt bo F T SF SB LV NR RE ND (upd (ht_ad CR (F i) nd (nI 1) k) (nd * 24 + (k * 8) + (ht_cn (F i) (nI k))) (((ht_ad CR (F i) nd (nI 1) k) (nd * 24 + (k * 8) + (ht_cn (F i) (nI k)))) + (nI 1))) (upd (ht_ad CS (F i) nd (RE i) k) (nd * 24 + (k * 8) + (ht_cn (F i) (nI k))) (((ht_ad CS (F i) nd (RE i) k) (nd * 24 + (k * 8) + (ht_cn (F i) (nI k)))) + (RE i)))) hx hb hK I 10 rfl (by omega) rfl dX1_addRow_55 (fun H locs I => ?_)
        refine lv_iinc (v := (nI (k + 1))) (lv' := [(3, .int (nI (k + 1))), (4, .int (nI (nd * 24 + (k * 8) + (ht_cn (F i) (nI k))))), (0, .ref (ad 0)), (1, .int (nI nd)), (2, .int (nI i))]) hx hb dX1_addRow_56 hl (k := 1) rfl (nI_add k 1) (by decide) rfl (fun ls hl => ?_)
        refine lv_goto (tgt := 2) hx hb dX1_addRow_59 (by decide) ?_
        exact ih (k + 1) (by omega) _ _ I ls (lv_sub hl [0, 2, 3, 4] rfl)
  refine lv_iconst (v := nI 0) hx hb dX1_addRow_0 (by decide) ?_
  refine lv_istore_n (lv' := [(3, .int (nI 0)), (0, .ref (ad 0)), (1, .int (nI nd)), (2, .int (nI i))]) hx hb dX1_addRow_1 rfl hl (by decide) rfl (fun ls hl => ?_)
  exact loop 3 0 (by omega) _ _ I ls (lv_sub hl [0, 1, 2, 3] rfl)
set_option maxHeartbeats 4000000 in
set_option maxRecDepth 100000 in
theorem xt_fromRows (nd : Nat) (hnd : nd < 7) (hcn : cn ≤ 24) : ht_MV l D dA yX1_fromRows (ws_ yX1_fromRows cX1_fromRows 3 none) 2 45 [.ref (ad 0), .int (nI nd)] (ht_X ad dA (nI ln) (nI cn) (nI tn) bf bb bt bo F T SF SB LV NR RE ND CR CS) (S := Unit) (fun (_ : Unit) => True) (fun _ => ht_X ad dA (nI ln) (nI cn) (nI tn) bf bb bt bo F T SF SB LV NR RE ND (ht_fr CR F ND (fun _ => nI 1) nd cn) (ht_fr CS F ND RE nd cn)) := by
  refine ht_MV_of (by decide) (Nat.le_of_ble_eq_true rfl) ?_
  intro p e s m below meth c A hx hb hr hlk hml hown hts hK hA I ls hl
  have hown : s.vm.findClass RX1 = some m.cls := hown
  have hl : lv_has ls 3 [(0, .ref (ad 0)), (1, .int (nI nd))] := hl
  have loop : ∀ (n i : Nat), i + n = cn → ∀ (H : Heap) (locs : List Loc), ht_I D A s.heap (ht_X ad dA (nI ln) (nI cn) (nI tn) bf bb bt bo F T SF SB LV NR RE ND (ht_fr CR F ND (fun _ => nI 1) nd i) (ht_fr CS F ND RE nd i)) H locs → ∀ ls : Array Slot, lv_has ls 3 [(2, .int (nI i)), (0, .ref (ad 0)), (1, .int (nI nd))] → W p l e (ht_Rm 2 45) s m ([.ref (ad 0), .int (nI nd)] : List Value).toArray below meth c H locs 0 0 (MQ below (va_Qv (fun (_ : Unit) => True) (fun u t => ht_Po D dA A ((fun _ => ht_X ad dA (nI ln) (nI cn) (nI tn) bf bb bt bo F T SF SB LV NR RE ND (ht_fr CR F ND (fun _ => nI 1) nd cn) (ht_fr CS F ND RE nd cn)) u) t) A) ([.ref (ad 0), .int (nI nd)] : List Value).toArray s 0 0 A) (F0 m 7 ls []) := by
    intro n
    induction n with
    | zero =>
      intro i hi H locs I ls hl
      refine lv_iload_n hx hb dX1_fromRows_7 rfl (lv_at hl 0 rfl) ?_
      refine lv_aload_n hx hb dX1_fromRows_8 rfl (lv_at hl 1 rfl) ?_
      refine ht_getX hx hb hts hown hK I 1 (by decide) q37 rfl rfl dX1_fromRows_9 ?_
      refine ht_ge (tgt := 37) hx hb dX1_fromRows_12 (by decide) (by omega) (by omega) (fun c_1 => ?_) (fun c_1 => ?_)
      · exact ht_vret hx hb hr hlk hK I (w2 := fun _ => ht_X ad dA (nI ln) (nI cn) (nI tn) bf bb bt bo F T SF SB LV NR RE ND (ht_fr CR F ND (fun _ => nI 1) nd cn) (ht_fr CS F ND RE nd cn)) () trivial (by rw [show i = cn by omega]) dX1_fromRows_37
      · exact absurd c_1 (by omega)
    | succ n ih =>
      intro i hi H locs I ls hl
      refine lv_iload_n hx hb dX1_fromRows_7 rfl (lv_at hl 0 rfl) ?_
      refine lv_aload_n hx hb dX1_fromRows_8 rfl (lv_at hl 1 rfl) ?_
      refine ht_getX hx hb hts hown hK I 1 (by decide) q37 rfl rfl dX1_fromRows_9 ?_
      refine ht_ge (tgt := 37) hx hb dX1_fromRows_12 (by decide) (by omega) (by omega) (fun c_2 => ?_) (fun c_2 => ?_)
      · exact absurd c_2 (by omega)
      · refine lv_aload_n hx hb dX1_fromRows_15 rfl (lv_at hl 1 rfl) ?_
        refine ht_getX hx hb hts hown hK I 10 (by decide) q46 rfl rfl dX1_fromRows_16 ?_
        refine lv_iload_n hx hb dX1_fromRows_19 rfl (lv_at hl 0 rfl) ?_
        refine ht_ald hx hb hK I 8 rfl (by omega) dX1_fromRows_20 ?_
        refine lv_iload_n hx hb dX1_fromRows_21 rfl (lv_at hl 2 rfl) ?_
        refine lv_icmp_ne (tgt := 31) hx hb dX1_fromRows_22 (by decide) (fun c_3 => ?_) (fun c_3 => ?_)
        · refine lv_iinc (v := (nI (i + 1))) (lv' := [(2, .int (nI (i + 1))), (0, .ref (ad 0)), (1, .int (nI nd))]) hx hb dX1_fromRows_31 hl (k := 0) rfl (nI_add i 1) (by decide) rfl (fun ls hl => ?_)
          refine lv_goto (tgt := 7) hx hb dX1_fromRows_34 (by decide) ?_
          have I := I.to (w3 := ht_X ad dA (nI ln) (nI cn) (nI tn) bf bb bt bo F T SF SB LV NR RE ND (ht_fr CR F ND (fun _ => nI 1) nd (i + 1)) (ht_fr CS F ND RE nd (i + 1))) (by simp only [ht_fr]; rw [if_neg c_3, if_neg c_3])
          exact ih (i + 1) (by omega) _ _ I ls (lv_sub hl [0, 1, 2] rfl)
        · refine lv_aload_n hx hb dX1_fromRows_25 rfl (lv_at hl 1 rfl) ?_
          refine lv_iload_n hx hb dX1_fromRows_26 rfl (lv_at hl 2 rfl) ?_
          refine lv_iload_n hx hb dX1_fromRows_27 rfl (lv_at hl 0 rfl) ?_
          refine ht_callVv (As := [.int (nI nd), .int (nI i)]) (rest := []) (wr := []) (q0 := 0) (ci := 0) hx hb hml hown hts hK hA I (xt_addRow l D dA ad ln cn tn bf bb bt bo F T SF SB LV NR RE ND (ht_fr CR F ND (fun _ => nI 1) nd i) (ht_fr CS F ND RE nd i) nd i hnd (by omega)) (cwV 2 hts (lw_V q124 q126 qs5 q26 q127) rfl rfl rfl (by decide +kernel) (by decide)) rfl rfl [0, 1, 2, 3, 4, 5, 6, 7, 8, 9, 10] [] rfl rfl (by decide) (by decide) (by decide) rfl hl.1 rfl (Nat.le_of_ble_eq_true rfl) dX1_fromRows_28 (by decide) (fun u H locs hp I => ?_)
          have I : ht_I D A s.heap (ht_X ad dA (nI ln) (nI cn) (nI tn) bf bb bt bo F T SF SB LV NR RE ND (ht_ad (ht_fr CR F ND (fun _ => nI 1) nd i) (F i) nd (nI 1) 3) (ht_ad (ht_fr CS F ND RE nd i) (F i) nd (RE i) 3)) H locs := I
          refine lv_iinc (v := (nI (i + 1))) (lv' := [(2, .int (nI (i + 1))), (0, .ref (ad 0)), (1, .int (nI nd))]) hx hb dX1_fromRows_31 hl (k := 0) rfl (nI_add i 1) (by decide) rfl (fun ls hl => ?_)
          refine lv_goto (tgt := 7) hx hb dX1_fromRows_34 (by decide) ?_
          have I := I.to (w3 := ht_X ad dA (nI ln) (nI cn) (nI tn) bf bb bt bo F T SF SB LV NR RE ND (ht_fr CR F ND (fun _ => nI 1) nd (i + 1)) (ht_fr CS F ND RE nd (i + 1))) (by simp only [ht_fr]; rw [if_pos c_3, if_pos c_3])
          exact ih (i + 1) (by omega) _ _ I ls (lv_sub hl [0, 1, 2] rfl)
  refine lv_aload_n hx hb dX1_fromRows_0 rfl (lv_at hl 0 rfl) ?_
  refine lv_iload_n hx hb dX1_fromRows_1 rfl (lv_at hl 1 rfl) ?_
  refine ht_callVv (As := [.int (nI nd)]) (rest := []) (wr := []) (q0 := 0) (ci := 0) hx hb hml hown hts hK hA I (xt_clearCells l D dA ad ln cn tn bf bb bt bo F T SF SB LV NR RE ND CR CS nd hnd) (cwV 1 hts (lw_V q120 q122 qs4 q26 q123) rfl rfl rfl (by decide +kernel) (by decide)) rfl rfl [0, 1, 2, 3, 4, 5, 6, 7, 8, 9, 10] [] rfl rfl (by decide) (by decide) (by decide) rfl hl.1 rfl (Nat.le_of_ble_eq_true rfl) dX1_fromRows_2 (by decide) (fun u H locs hp I => ?_)
  have I : ht_I D A s.heap (ht_X ad dA (nI ln) (nI cn) (nI tn) bf bb bt bo F T SF SB LV NR RE ND (ht_put CR (nd * 24) 24 (fun _ => nI 0)) (ht_put CS (nd * 24) 24 (fun _ => nI 0))) H locs := I
  refine lv_iconst (v := nI 0) hx hb dX1_fromRows_5 (by decide) ?_
  refine lv_istore_n (lv' := [(2, .int (nI 0)), (0, .ref (ad 0)), (1, .int (nI nd))]) hx hb dX1_fromRows_6 rfl hl (by decide) rfl (fun ls hl => ?_)
  exact loop cn 0 (by omega) _ _ I ls (lv_sub hl [0, 1, 2] rfl)
set_option maxHeartbeats 4000000 in
set_option maxRecDepth 100000 in
theorem xt_fromParent (nd pa ot : Nat) (hnd : nd < 7) (hpa : pa < 7) (hot : ot < 7) (h1 : nd ≠ pa) (h2 : nd ≠ ot) : ht_MV l D dA yX1_fromParent (ws_ yX1_fromParent cX1_fromParent 5 none) 0 0 [.ref (ad 0), .int (nI nd), .int (nI pa), .int (nI ot)] (ht_X ad dA (nI ln) (nI cn) (nI tn) bf bb bt bo F T SF SB LV NR RE ND CR CS) (S := Unit) (fun (_ : Unit) => True) (fun _ => ht_X ad dA (nI ln) (nI cn) (nI tn) bf bb bt bo F T SF SB LV NR RE ND (ht_fp CR nd pa ot) (ht_fp CS nd pa ot)) := by
  refine ht_MV_of (by decide) (Nat.le_of_ble_eq_true rfl) ?_
  intro p e s m below meth c A hx hb hr hlk hml hown hts hK hA I ls hl
  have hown : s.vm.findClass RX1 = some m.cls := hown
  have hl : lv_has ls 5 [(0, .ref (ad 0)), (1, .int (nI nd)), (2, .int (nI pa)), (3, .int (nI ot))] := hl
  have loop : ∀ (n i : Nat), i + n = 24 → ∀ (H : Heap) (locs : List Loc), ht_I D A s.heap (ht_X ad dA (nI ln) (nI cn) (nI tn) bf bb bt bo F T SF SB LV NR RE ND (ht_put CR (nd * 24) i (fun j => CR (pa * 24 + (j - nd * 24)) - CR (ot * 24 + (j - nd * 24)))) (ht_put CS (nd * 24) i (fun j => CS (pa * 24 + (j - nd * 24)) - CS (ot * 24 + (j - nd * 24))))) H locs → ∀ ls : Array Slot, lv_has ls 5 [(4, .int (nI i)), (0, .ref (ad 0)), (1, .int (nI nd)), (2, .int (nI pa)), (3, .int (nI ot))] → W p l e (ht_Rm 0 0) s m ([.ref (ad 0), .int (nI nd), .int (nI pa), .int (nI ot)] : List Value).toArray below meth c H locs 0 0 (MQ below (va_Qv (fun (_ : Unit) => True) (fun u t => ht_Po D dA A ((fun _ => ht_X ad dA (nI ln) (nI cn) (nI tn) bf bb bt bo F T SF SB LV NR RE ND (ht_fp CR nd pa ot) (ht_fp CS nd pa ot)) u) t) A) ([.ref (ad 0), .int (nI nd), .int (nI pa), .int (nI ot)] : List Value).toArray s 0 0 A) (F0 m 3 ls []) := by
    intro n
    induction n with
    | zero =>
      intro i hi H locs I ls hl
      refine lv_iload hx hb dX1_fromParent_3 (lv_at hl 0 rfl) ?_
      refine lv_bipush (v := nI 24) hx hb dX1_fromParent_5 (by decide) ?_
      refine ht_ge (tgt := 90) hx hb dX1_fromParent_7 (by decide) (by omega) (by omega) (fun c_1 => ?_) (fun c_1 => ?_)
      · exact ht_vret hx hb hr hlk hK I (w2 := fun _ => ht_X ad dA (nI ln) (nI cn) (nI tn) bf bb bt bo F T SF SB LV NR RE ND (ht_fp CR nd pa ot) (ht_fp CS nd pa ot)) () trivial (by rw [show i = 24 by omega]; rfl) dX1_fromParent_90
      · exact absurd c_1 (by omega)
    | succ n ih =>
      intro i hi H locs I ls hl
      refine lv_iload hx hb dX1_fromParent_3 (lv_at hl 0 rfl) ?_
      refine lv_bipush (v := nI 24) hx hb dX1_fromParent_5 (by decide) ?_
      refine ht_ge (tgt := 90) hx hb dX1_fromParent_7 (by decide) (by omega) (by omega) (fun c_2 => ?_) (fun c_2 => ?_)
      · exact absurd c_2 (by omega)
      · refine lv_aload_n hx hb dX1_fromParent_10 rfl (lv_at hl 1 rfl) ?_
        refine ht_getX hx hb hts hown hK I 11 (by decide) q47 rfl rfl dX1_fromParent_11 ?_
        refine lv_iload_n hx hb dX1_fromParent_14 rfl (lv_at hl 2 rfl) ?_
        refine lv_bipush (v := nI 24) hx hb dX1_fromParent_15 (by decide) ?_
        refine lv_imul hx hb dX1_fromParent_17 ?_
        refine ht_ti (pk_mul nd 24) ?_
        refine lv_iload hx hb dX1_fromParent_18 (lv_at hl 0 rfl) ?_
        refine lv_iadd hx hb dX1_fromParent_20 ?_
        refine ht_ti (nI_add (nd * 24) i) ?_
        refine lv_aload_n hx hb dX1_fromParent_21 rfl (lv_at hl 1 rfl) ?_
        refine ht_getX hx hb hts hown hK I 11 (by decide) q47 rfl rfl dX1_fromParent_22 ?_
        refine lv_iload_n hx hb dX1_fromParent_25 rfl (lv_at hl 3 rfl) ?_
        refine lv_bipush (v := nI 24) hx hb dX1_fromParent_26 (by decide) ?_
        refine lv_imul hx hb dX1_fromParent_28 ?_
        refine ht_ti (pk_mul pa 24) ?_
        refine lv_iload hx hb dX1_fromParent_29 (lv_at hl 0 rfl) ?_
        refine lv_iadd hx hb dX1_fromParent_31 ?_
        refine ht_ti (nI_add (pa * 24) i) ?_
        refine ht_ald hx hb hK I 9 rfl (by omega) dX1_fromParent_32 ?_
        refine lv_aload_n hx hb dX1_fromParent_33 rfl (lv_at hl 1 rfl) ?_
        refine ht_getX hx hb hts hown hK I 11 (by decide) q47 rfl rfl dX1_fromParent_34 ?_
        refine lv_iload_n hx hb dX1_fromParent_37 rfl (lv_at hl 4 rfl) ?_
        refine lv_bipush (v := nI 24) hx hb dX1_fromParent_38 (by decide) ?_
        refine lv_imul hx hb dX1_fromParent_40 ?_
        refine ht_ti (pk_mul ot 24) ?_
        refine lv_iload hx hb dX1_fromParent_41 (lv_at hl 0 rfl) ?_
        refine lv_iadd hx hb dX1_fromParent_43 ?_
        refine ht_ti (nI_add (ot * 24) i) ?_
        refine ht_ald hx hb hK I 9 rfl (by omega) dX1_fromParent_44 ?_
        refine lv_isub hx hb dX1_fromParent_45 ?_
        refine ht_ast (w3 := ht_X ad dA (nI ln) (nI cn) (nI tn) bf bb bt bo F T SF SB LV NR RE ND (upd (ht_put CR (nd * 24) i (fun j => CR (pa * 24 + (j - nd * 24)) - CR (ot * 24 + (j - nd * 24)))) (nd * 24 + i) (((ht_put CR (nd * 24) i (fun j => CR (pa * 24 + (j - nd * 24)) - CR (ot * 24 + (j - nd * 24)))) (pa * 24 + i)) - ((ht_put CR (nd * 24) i (fun j => CR (pa * 24 + (j - nd * 24)) - CR (ot * 24 + (j - nd * 24)))) (ot * 24 + i)))) (ht_put CS (nd * 24) i (fun j => CS (pa * 24 + (j - nd * 24)) - CS (ot * 24 + (j - nd * 24))))) hx hb hK I 9 rfl (by omega) rfl dX1_fromParent_46 (fun H locs I => ?_)
        refine lv_aload_n hx hb dX1_fromParent_47 rfl (lv_at hl 1 rfl) ?_
        refine ht_getX hx hb hts hown hK I 12 (by decide) q48 rfl rfl dX1_fromParent_48 ?_
        refine lv_iload_n hx hb dX1_fromParent_51 rfl (lv_at hl 2 rfl) ?_
        refine lv_bipush (v := nI 24) hx hb dX1_fromParent_52 (by decide) ?_
        refine lv_imul hx hb dX1_fromParent_54 ?_
        refine ht_ti (pk_mul nd 24) ?_
        refine lv_iload hx hb dX1_fromParent_55 (lv_at hl 0 rfl) ?_
        refine lv_iadd hx hb dX1_fromParent_57 ?_
        refine ht_ti (nI_add (nd * 24) i) ?_
        refine lv_aload_n hx hb dX1_fromParent_58 rfl (lv_at hl 1 rfl) ?_
        refine ht_getX hx hb hts hown hK I 12 (by decide) q48 rfl rfl dX1_fromParent_59 ?_
        refine lv_iload_n hx hb dX1_fromParent_62 rfl (lv_at hl 3 rfl) ?_
        refine lv_bipush (v := nI 24) hx hb dX1_fromParent_63 (by decide) ?_
        refine lv_imul hx hb dX1_fromParent_65 ?_
        refine ht_ti (pk_mul pa 24) ?_
        refine lv_iload hx hb dX1_fromParent_66 (lv_at hl 0 rfl) ?_
        refine lv_iadd hx hb dX1_fromParent_68 ?_
        refine ht_ti (nI_add (pa * 24) i) ?_
        refine ht_ald hx hb hK I 10 rfl (by omega) dX1_fromParent_69 ?_
        refine lv_aload_n hx hb dX1_fromParent_70 rfl (lv_at hl 1 rfl) ?_
        refine ht_getX hx hb hts hown hK I 12 (by decide) q48 rfl rfl dX1_fromParent_71 ?_
        refine lv_iload_n hx hb dX1_fromParent_74 rfl (lv_at hl 4 rfl) ?_
        refine lv_bipush (v := nI 24) hx hb dX1_fromParent_75 (by decide) ?_
        refine lv_imul hx hb dX1_fromParent_77 ?_
        refine ht_ti (pk_mul ot 24) ?_
        refine lv_iload hx hb dX1_fromParent_78 (lv_at hl 0 rfl) ?_
        refine lv_iadd hx hb dX1_fromParent_80 ?_
        refine ht_ti (nI_add (ot * 24) i) ?_
        refine ht_ald hx hb hK I 10 rfl (by omega) dX1_fromParent_81 ?_
        refine lv_isub hx hb dX1_fromParent_82 ?_
        refine ht_ast (w3 := ht_X ad dA (nI ln) (nI cn) (nI tn) bf bb bt bo F T SF SB LV NR RE ND (upd (ht_put CR (nd * 24) i (fun j => CR (pa * 24 + (j - nd * 24)) - CR (ot * 24 + (j - nd * 24)))) (nd * 24 + i) (((ht_put CR (nd * 24) i (fun j => CR (pa * 24 + (j - nd * 24)) - CR (ot * 24 + (j - nd * 24)))) (pa * 24 + i)) - ((ht_put CR (nd * 24) i (fun j => CR (pa * 24 + (j - nd * 24)) - CR (ot * 24 + (j - nd * 24)))) (ot * 24 + i)))) (upd (ht_put CS (nd * 24) i (fun j => CS (pa * 24 + (j - nd * 24)) - CS (ot * 24 + (j - nd * 24)))) (nd * 24 + i) (((ht_put CS (nd * 24) i (fun j => CS (pa * 24 + (j - nd * 24)) - CS (ot * 24 + (j - nd * 24)))) (pa * 24 + i)) - ((ht_put CS (nd * 24) i (fun j => CS (pa * 24 + (j - nd * 24)) - CS (ot * 24 + (j - nd * 24)))) (ot * 24 + i))))) hx hb hK I 10 rfl (by omega) rfl dX1_fromParent_83 (fun H locs I => ?_)
        refine lv_iinc (v := (nI (i + 1))) (lv' := [(4, .int (nI (i + 1))), (0, .ref (ad 0)), (1, .int (nI nd)), (2, .int (nI pa)), (3, .int (nI ot))]) hx hb dX1_fromParent_84 hl (k := 0) rfl (nI_add i 1) (by decide) rfl (fun ls hl => ?_)
        refine lv_goto (tgt := 3) hx hb dX1_fromParent_87 (by decide) ?_
        have eCR := ht_put_s (f := CR) (lo := nd * 24) (n := i) (g := (fun j => CR (pa * 24 + (j - nd * 24)) - CR (ot * 24 + (j - nd * 24)))) (x := ht_put CR (nd * 24) i (fun j => CR (pa * 24 + (j - nd * 24)) - CR (ot * 24 + (j - nd * 24))) (pa * 24 + i) - ht_put CR (nd * 24) i (fun j => CR (pa * 24 + (j - nd * 24)) - CR (ot * 24 + (j - nd * 24))) (ot * 24 + i)) (by rw [ht_put_out (by omega), ht_put_out (by omega), Nat.add_sub_cancel_left])
        have eCS := ht_put_s (f := CS) (lo := nd * 24) (n := i) (g := (fun j => CS (pa * 24 + (j - nd * 24)) - CS (ot * 24 + (j - nd * 24)))) (x := ht_put CS (nd * 24) i (fun j => CS (pa * 24 + (j - nd * 24)) - CS (ot * 24 + (j - nd * 24))) (pa * 24 + i) - ht_put CS (nd * 24) i (fun j => CS (pa * 24 + (j - nd * 24)) - CS (ot * 24 + (j - nd * 24))) (ot * 24 + i)) (by rw [ht_put_out (by omega), ht_put_out (by omega), Nat.add_sub_cancel_left])
        rw [eCR, eCS] at I
        exact ih (i + 1) (by omega) _ _ I ls (lv_sub hl [0, 1, 2, 3, 4] rfl)
  refine lv_iconst (v := nI 0) hx hb dX1_fromParent_0 (by decide) ?_
  refine lv_istore (lv' := [(4, .int (nI 0)), (0, .ref (ad 0)), (1, .int (nI nd)), (2, .int (nI pa)), (3, .int (nI ot))]) hx hb dX1_fromParent_1 hl (by decide) rfl (fun ls hl => ?_)
  have I := I.to (w3 := ht_X ad dA (nI ln) (nI cn) (nI tn) bf bb bt bo F T SF SB LV NR RE ND (ht_put CR (nd * 24) 0 (fun j => CR (pa * 24 + (j - nd * 24)) - CR (ot * 24 + (j - nd * 24)))) (ht_put CS (nd * 24) 0 (fun j => CS (pa * 24 + (j - nd * 24)) - CS (ot * 24 + (j - nd * 24))))) (by rw [ht_put_0, ht_put_0])
  exact loop 24 0 (by omega) _ _ I ls (lv_sub hl [0, 1, 2, 3, 4] rfl)
set_option maxHeartbeats 4000000 in
set_option maxRecDepth 100000 in
theorem xt_tryLeft (f b : Int32) (nl sl nn sm : Int64) : ht_MV l D dA yX1_tryLeft (ws_ yX1_tryLeft cX1_tryLeft 19 none) 0 0 [.ref (ad 0), .int f, .int b, .long nl, .long sl, .long nn, .long sm] (ht_X ad dA (nI ln) (nI cn) (nI tn) bf bb bt bo F T SF SB LV NR RE ND CR CS) (S := ht_B) (fun (u : ht_B) => u = ht_try (nI ln) (bf, bb, bt, bo) f b nl sl nn sm) (fun (u : ht_B) => ht_X ad dA (nI ln) (nI cn) (nI tn) u.1 u.2.1 u.2.2.1 u.2.2.2 F T SF SB LV NR RE ND CR CS) := by
  refine ht_MV_of (by decide) (Nat.le_of_ble_eq_true rfl) ?_
  intro p e s m below meth c A hx hb hr hlk hml hown hts hK hA I ls hl
  have hown : s.vm.findClass RX1 = some m.cls := hown
  have hl : lv_has ls 19 [(0, .ref (ad 0)), (1, .int f), (2, .int b), (3, .long nl), (5, .long sl), (7, .long nn), (9, .long sm)] := hl
  refine lv_lload hx hb dX1_tryLeft_0 (lv_at hl 5 rfl) ?_
  refine lv_lload_n hx hb dX1_tryLeft_2 rfl (lv_at hl 3 rfl) ?_
  refine lv_lsub hx hb dX1_tryLeft_3 ?_
  refine lv_lstore (lv' := [(11, .long (nn - nl)), (0, .ref (ad 0)), (1, .int f), (2, .int b), (3, .long nl), (5, .long sl), (7, .long nn), (9, .long sm)]) hx hb dX1_tryLeft_4 hl (by decide) rfl (fun ls hl => ?_)
  refine lv_lload hx hb dX1_tryLeft_6 (lv_at hl 7 rfl) ?_
  refine lv_lload hx hb dX1_tryLeft_8 (lv_at hl 5 rfl) ?_
  refine lv_lsub hx hb dX1_tryLeft_10 ?_
  refine lv_lstore (lv' := [(13, .long (sm - sl)), (11, .long (nn - nl)), (0, .ref (ad 0)), (1, .int f), (2, .int b), (3, .long nl), (5, .long sl), (7, .long nn), (9, .long sm)]) hx hb dX1_tryLeft_11 hl (by decide) rfl (fun ls hl => ?_)
  refine lv_lload_n hx hb dX1_tryLeft_13 rfl (lv_at hl 5 rfl) ?_
  refine lv_aload_n hx hb dX1_tryLeft_14 rfl (lv_at hl 2 rfl) ?_
  refine ht_getX hx hb hts hown hK I 0 (by decide) q36 rfl rfl dX1_tryLeft_15 ?_
  refine lv_i2l (v := (nI ln).toInt64) hx hb dX1_tryLeft_18 rfl ?_
  refine W.lcmp hx hb dX1_tryLeft_19 ?_
  refine lv_if_lt (tgt := 34) hx hb dX1_tryLeft_20 (by decide) (fun c_1 => ?_) (fun c_1 => ?_)
  · have c_1 := (lg_cmp_lt _ _).mp c_1
    exact ht_vret hx hb hr hlk hK I (w2 := fun (u : ht_B) => ht_X ad dA (nI ln) (nI cn) (nI tn) u.1 u.2.1 u.2.2.1 u.2.2.2 F T SF SB LV NR RE ND CR CS) (bf, bb, bt, bo) (by unfold ht_try; rw [if_pos c_1]) rfl dX1_tryLeft_34
  · have c_1 := fun q => c_1 ((lg_cmp_lt nl ((nI ln).toInt64)).mpr q)
    refine lv_lload hx hb dX1_tryLeft_23 (lv_at hl 1 rfl) ?_
    refine lv_aload_n hx hb dX1_tryLeft_25 rfl (lv_at hl 2 rfl) ?_
    refine ht_getX hx hb hts hown hK I 0 (by decide) q36 rfl rfl dX1_tryLeft_26 ?_
    refine lv_i2l (v := (nI ln).toInt64) hx hb dX1_tryLeft_29 rfl ?_
    refine W.lcmp hx hb dX1_tryLeft_30 ?_
    refine lv_if_ge (tgt := 35) hx hb dX1_tryLeft_31 (by decide) (fun c_2 => ?_) (fun c_2 => ?_)
    · have c_2 := (lg_cmp_ge _ _).mp c_2
      refine lv_lload hx hb dX1_tryLeft_35 (lv_at hl 6 rfl) ?_
      refine lv_lload hx hb dX1_tryLeft_37 (lv_at hl 6 rfl) ?_
      refine lv_lmul hx hb dX1_tryLeft_39 ?_
      refine lv_lload hx hb dX1_tryLeft_40 (lv_at hl 1 rfl) ?_
      refine lv_lmul hx hb dX1_tryLeft_42 ?_
      refine lv_lload hx hb dX1_tryLeft_43 (lv_at hl 0 rfl) ?_
      refine lv_lload hx hb dX1_tryLeft_45 (lv_at hl 0 rfl) ?_
      refine lv_lmul hx hb dX1_tryLeft_47 ?_
      refine lv_lload_n hx hb dX1_tryLeft_48 rfl (lv_at hl 5 rfl) ?_
      refine lv_lmul hx hb dX1_tryLeft_49 ?_
      refine lv_ladd hx hb dX1_tryLeft_50 ?_
      refine lv_lstore (lv' := [(15, .long (((sl * sl) * (nn - nl)) + (((sm - sl) * (sm - sl)) * nl))), (13, .long (sm - sl)), (11, .long (nn - nl)), (0, .ref (ad 0)), (1, .int f), (2, .int b), (3, .long nl), (5, .long sl), (7, .long nn), (9, .long sm)]) hx hb dX1_tryLeft_51 hl (by decide) rfl (fun ls hl => ?_)
      refine lv_lload_n hx hb dX1_tryLeft_53 rfl (lv_at hl 6 rfl) ?_
      refine lv_lload hx hb dX1_tryLeft_54 (lv_at hl 2 rfl) ?_
      refine lv_lmul hx hb dX1_tryLeft_56 ?_
      refine lv_lstore (lv' := [(17, .long (nl * (nn - nl))), (15, .long (((sl * sl) * (nn - nl)) + (((sm - sl) * (sm - sl)) * nl))), (13, .long (sm - sl)), (11, .long (nn - nl)), (0, .ref (ad 0)), (1, .int f), (2, .int b), (3, .long nl), (5, .long sl), (7, .long nn), (9, .long sm)]) hx hb dX1_tryLeft_57 hl (by decide) rfl (fun ls hl => ?_)
      refine lv_aload_n hx hb dX1_tryLeft_59 rfl (lv_at hl 4 rfl) ?_
      refine ht_getX hx hb hts hown hK I 13 (by decide) q49 rfl rfl dX1_tryLeft_60 ?_
      refine lv_if_lt (tgt := 85) hx hb dX1_tryLeft_63 (by decide) (fun c_3 => ?_) (fun c_3 => ?_)
      · refine lv_aload_n hx hb dX1_tryLeft_85 rfl (lv_at hl 4 rfl) ?_
        refine lv_iload_n hx hb dX1_tryLeft_86 rfl (lv_at hl 5 rfl) ?_
        refine ht_putX (ty := .int) (w3 := ht_X ad dA (nI ln) (nI cn) (nI tn) f bb bt bo F T SF SB LV NR RE ND CR CS) hx hb hts hown hK I 13 (by decide) q49 rfl (by decide +kernel) rfl rfl rfl (Nat.le_of_ble_eq_true rfl) rfl dX1_tryLeft_87 (fun H locs I => ?_)
        refine lv_aload_n hx hb dX1_tryLeft_90 rfl (lv_at hl 4 rfl) ?_
        refine lv_iload_n hx hb dX1_tryLeft_91 rfl (lv_at hl 6 rfl) ?_
        refine ht_putX (ty := .int) (w3 := ht_X ad dA (nI ln) (nI cn) (nI tn) f b bt bo F T SF SB LV NR RE ND CR CS) hx hb hts hown hK I 14 (by decide) q50 rfl (by decide +kernel) rfl rfl rfl (Nat.le_of_ble_eq_true rfl) rfl dX1_tryLeft_92 (fun H locs I => ?_)
        refine lv_aload_n hx hb dX1_tryLeft_95 rfl (lv_at hl 4 rfl) ?_
        refine lv_lload hx hb dX1_tryLeft_96 (lv_at hl 1 rfl) ?_
        refine ht_putX (ty := .long) (w3 := ht_X ad dA (nI ln) (nI cn) (nI tn) f b (((sl * sl) * (nn - nl)) + (((sm - sl) * (sm - sl)) * nl)) bo F T SF SB LV NR RE ND CR CS) hx hb hts hown hK I 15 (by decide) q51 rfl (by decide +kernel) rfl rfl rfl (Nat.le_of_ble_eq_true rfl) rfl dX1_tryLeft_98 (fun H locs I => ?_)
        refine lv_aload_n hx hb dX1_tryLeft_101 rfl (lv_at hl 4 rfl) ?_
        refine lv_lload hx hb dX1_tryLeft_102 (lv_at hl 0 rfl) ?_
        refine ht_putX (ty := .long) (w3 := ht_X ad dA (nI ln) (nI cn) (nI tn) f b (((sl * sl) * (nn - nl)) + (((sm - sl) * (sm - sl)) * nl)) (nl * (nn - nl)) F T SF SB LV NR RE ND CR CS) hx hb hts hown hK I 16 (by decide) q52 rfl (by decide +kernel) rfl rfl rfl (Nat.le_of_ble_eq_true rfl) rfl dX1_tryLeft_104 (fun H locs I => ?_)
        exact ht_vret hx hb hr hlk hK I (w2 := fun (u : ht_B) => ht_X ad dA (nI ln) (nI cn) (nI tn) u.1 u.2.1 u.2.2.1 u.2.2.2 F T SF SB LV NR RE ND CR CS) (f, b, (((sl * sl) * (nn - nl)) + (((sm - sl) * (sm - sl)) * nl)), (nl * (nn - nl))) (by unfold ht_try; rw [if_neg c_1, if_pos c_2, if_pos c_3]) rfl dX1_tryLeft_107
      · refine lv_lload hx hb dX1_tryLeft_66 (lv_at hl 1 rfl) ?_
        refine lv_aload_n hx hb dX1_tryLeft_68 rfl (lv_at hl 4 rfl) ?_
        refine ht_getX hx hb hts hown hK I 16 (by decide) q52 rfl rfl dX1_tryLeft_69 ?_
        refine lv_lmul hx hb dX1_tryLeft_72 ?_
        refine lv_aload_n hx hb dX1_tryLeft_73 rfl (lv_at hl 4 rfl) ?_
        refine ht_getX hx hb hts hown hK I 15 (by decide) q51 rfl rfl dX1_tryLeft_74 ?_
        refine lv_lload hx hb dX1_tryLeft_77 (lv_at hl 0 rfl) ?_
        refine lv_lmul hx hb dX1_tryLeft_79 ?_
        refine W.lcmp hx hb dX1_tryLeft_80 ?_
        refine lv_if_gt (tgt := 85) hx hb dX1_tryLeft_81 (by decide) (fun c_4 => ?_) (fun c_4 => ?_)
        · have c_4 := (lg_cmp_gt _ _).mp c_4
          refine lv_aload_n hx hb dX1_tryLeft_85 rfl (lv_at hl 4 rfl) ?_
          refine lv_iload_n hx hb dX1_tryLeft_86 rfl (lv_at hl 5 rfl) ?_
          refine ht_putX (ty := .int) (w3 := ht_X ad dA (nI ln) (nI cn) (nI tn) f bb bt bo F T SF SB LV NR RE ND CR CS) hx hb hts hown hK I 13 (by decide) q49 rfl (by decide +kernel) rfl rfl rfl (Nat.le_of_ble_eq_true rfl) rfl dX1_tryLeft_87 (fun H locs I => ?_)
          refine lv_aload_n hx hb dX1_tryLeft_90 rfl (lv_at hl 4 rfl) ?_
          refine lv_iload_n hx hb dX1_tryLeft_91 rfl (lv_at hl 6 rfl) ?_
          refine ht_putX (ty := .int) (w3 := ht_X ad dA (nI ln) (nI cn) (nI tn) f b bt bo F T SF SB LV NR RE ND CR CS) hx hb hts hown hK I 14 (by decide) q50 rfl (by decide +kernel) rfl rfl rfl (Nat.le_of_ble_eq_true rfl) rfl dX1_tryLeft_92 (fun H locs I => ?_)
          refine lv_aload_n hx hb dX1_tryLeft_95 rfl (lv_at hl 4 rfl) ?_
          refine lv_lload hx hb dX1_tryLeft_96 (lv_at hl 1 rfl) ?_
          refine ht_putX (ty := .long) (w3 := ht_X ad dA (nI ln) (nI cn) (nI tn) f b (((sl * sl) * (nn - nl)) + (((sm - sl) * (sm - sl)) * nl)) bo F T SF SB LV NR RE ND CR CS) hx hb hts hown hK I 15 (by decide) q51 rfl (by decide +kernel) rfl rfl rfl (Nat.le_of_ble_eq_true rfl) rfl dX1_tryLeft_98 (fun H locs I => ?_)
          refine lv_aload_n hx hb dX1_tryLeft_101 rfl (lv_at hl 4 rfl) ?_
          refine lv_lload hx hb dX1_tryLeft_102 (lv_at hl 0 rfl) ?_
          refine ht_putX (ty := .long) (w3 := ht_X ad dA (nI ln) (nI cn) (nI tn) f b (((sl * sl) * (nn - nl)) + (((sm - sl) * (sm - sl)) * nl)) (nl * (nn - nl)) F T SF SB LV NR RE ND CR CS) hx hb hts hown hK I 16 (by decide) q52 rfl (by decide +kernel) rfl rfl rfl (Nat.le_of_ble_eq_true rfl) rfl dX1_tryLeft_104 (fun H locs I => ?_)
          exact ht_vret hx hb hr hlk hK I (w2 := fun (u : ht_B) => ht_X ad dA (nI ln) (nI cn) (nI tn) u.1 u.2.1 u.2.2.1 u.2.2.2 F T SF SB LV NR RE ND CR CS) (f, b, (((sl * sl) * (nn - nl)) + (((sm - sl) * (sm - sl)) * nl)), (nl * (nn - nl))) (by unfold ht_try; rw [if_neg c_1, if_pos c_2, if_neg c_3, if_pos c_4]) rfl dX1_tryLeft_107
        · have c_4 := fun q => c_4 ((lg_cmp_gt ((((sl * sl) * (nn - nl)) + (((sm - sl) * (sm - sl)) * nl)) * bo) (bt * (nl * (nn - nl)))).mpr q)
          exact ht_vret hx hb hr hlk hK I (w2 := fun (u : ht_B) => ht_X ad dA (nI ln) (nI cn) (nI tn) u.1 u.2.1 u.2.2.1 u.2.2.2 F T SF SB LV NR RE ND CR CS) (bf, bb, bt, bo) (by unfold ht_try; rw [if_neg c_1, if_pos c_2, if_neg c_3, if_neg c_4]) rfl dX1_tryLeft_84
    · have c_2 := fun q => c_2 ((lg_cmp_ge (nn - nl) ((nI ln).toInt64)).mpr q)
      exact ht_vret hx hb hr hlk hK I (w2 := fun (u : ht_B) => ht_X ad dA (nI ln) (nI cn) (nI tn) u.1 u.2.1 u.2.2.1 u.2.2.2 F T SF SB LV NR RE ND CR CS) (bf, bb, bt, bo) (by unfold ht_try; rw [if_neg c_1, if_neg c_2]) rfl dX1_tryLeft_34
set_option maxHeartbeats 4000000 in
set_option maxRecDepth 100000 in
theorem xt_makeLeaf (a : Nat) (n sm : Int32) (ha : a < 28) : ht_MV l D dA yX1_makeLeaf (ws_ yX1_makeLeaf cX1_makeLeaf 4 none) 0 0 [.ref (ad 0), .int (nI a), .int n, .int sm] (ht_X ad dA (nI ln) (nI cn) (nI tn) bf bb bt bo F T SF SB LV NR RE ND CR CS) (S := Unit) (fun (_ : Unit) => True) (fun _ => ht_X ad dA (nI ln) (nI cn) (nI tn) bf bb bt bo F T (upd SF a (-6)) SB (upd LV a (ht_dv sm n)) NR RE ND CR CS) := by
  refine ht_MV_of (by decide) (Nat.le_of_ble_eq_true rfl) ?_
  intro p e s m below meth c A hx hb hr hlk hml hown hts hK hA I ls hl
  have hown : s.vm.findClass RX1 = some m.cls := hown
  have hl : lv_has ls 4 [(0, .ref (ad 0)), (1, .int (nI a)), (2, .int n), (3, .int sm)] := hl
  refine lv_aload_n hx hb dX1_makeLeaf_0 rfl (lv_at hl 0 rfl) ?_
  refine ht_getX hx hb hts hown hK I 5 (by decide) q41 rfl rfl dX1_makeLeaf_1 ?_
  refine lv_iload_n hx hb dX1_makeLeaf_4 rfl (lv_at hl 1 rfl) ?_
  refine lv_bipush (v := (-6)) hx hb dX1_makeLeaf_5 (by decide) ?_
  refine ht_ast (w3 := ht_X ad dA (nI ln) (nI cn) (nI tn) bf bb bt bo F T (upd SF a (-6 : Int32)) SB LV NR RE ND CR CS) hx hb hK I 3 rfl (by omega) rfl dX1_makeLeaf_7 (fun H locs I => ?_)
  refine lv_aload_n hx hb dX1_makeLeaf_8 rfl (lv_at hl 0 rfl) ?_
  refine ht_getX hx hb hts hown hK I 7 (by decide) q43 rfl rfl dX1_makeLeaf_9 ?_
  refine lv_iload_n hx hb dX1_makeLeaf_12 rfl (lv_at hl 1 rfl) ?_
  refine lv_iload_n hx hb dX1_makeLeaf_13 rfl (lv_at hl 2 rfl) ?_
  refine lv_if_le (tgt := 23) hx hb dX1_makeLeaf_14 (by decide) (fun c_1 => ?_) (fun c_1 => ?_)
  · refine lv_iconst (v := nI 0) hx hb dX1_makeLeaf_23 (by decide) ?_
    refine ht_ast (w3 := ht_X ad dA (nI ln) (nI cn) (nI tn) bf bb bt bo F T (upd SF a (-6 : Int32)) SB (upd LV a (nI 0)) NR RE ND CR CS) hx hb hK I 5 rfl (by omega) rfl dX1_makeLeaf_24 (fun H locs I => ?_)
    exact ht_vret hx hb hr hlk hK I (w2 := fun _ => ht_X ad dA (nI ln) (nI cn) (nI tn) bf bb bt bo F T (upd SF a (-6)) SB (upd LV a (ht_dv sm n)) NR RE ND CR CS) () trivial (by unfold ht_dv; rw [if_pos c_1]) dX1_makeLeaf_25
  · refine lv_iload_n hx hb dX1_makeLeaf_17 rfl (lv_at hl 3 rfl) ?_
    refine lv_iload_n hx hb dX1_makeLeaf_18 rfl (lv_at hl 2 rfl) ?_
    refine lv_idiv hx hb dX1_makeLeaf_19 (fun q => c_1 (by rw [q]; decide)) ?_
    refine lv_goto (tgt := 24) hx hb dX1_makeLeaf_20 (by decide) ?_
    refine ht_ast (w3 := ht_X ad dA (nI ln) (nI cn) (nI tn) bf bb bt bo F T (upd SF a (-6 : Int32)) SB (upd LV a (sm / n)) NR RE ND CR CS) hx hb hK I 5 rfl (by omega) rfl dX1_makeLeaf_24 (fun H locs I => ?_)
    exact ht_vret hx hb hr hlk hK I (w2 := fun _ => ht_X ad dA (nI ln) (nI cn) (nI tn) bf bb bt bo F T (upd SF a (-6)) SB (upd LV a (ht_dv sm n)) NR RE ND CR CS) () trivial (by unfold ht_dv; rw [if_neg c_1]) dX1_makeLeaf_25
set_option maxHeartbeats 4000000 in
set_option maxRecDepth 100000 in
theorem xt_findSplit (nd : Nat) (nn sm : Int32) (hnd : nd < 7) : ht_MV l D dA yX1_findSplit (ws_ yX1_findSplit cX1_findSplit 8 none) 1 38 [.ref (ad 0), .int (nI nd), .int nn, .int sm] (ht_X ad dA (nI ln) (nI cn) (nI tn) bf bb bt bo F T SF SB LV NR RE ND CR CS) (S := ht_B) (fun (u : ht_B) => u = ht_fold (nI ln) CR CS nd nn sm ((-1), bb, bt, bo) (21)) (fun (u : ht_B) => ht_X ad dA (nI ln) (nI cn) (nI tn) u.1 u.2.1 u.2.2.1 u.2.2.2 F T SF SB LV NR RE ND CR CS) := by
  refine ht_MV_of (by decide) (Nat.le_of_ble_eq_true rfl) ?_
  intro p e s m below meth c A hx hb hr hlk hml hown hts hK hA I ls hl
  have hown : s.vm.findClass RX1 = some m.cls := hown
  have hl : lv_has ls 8 [(0, .ref (ad 0)), (1, .int (nI nd)), (2, .int nn), (3, .int sm)] := hl
  have loop : ∀ (k f : Nat), f + k = 3 → ∀ (H : Heap) (locs : List Loc), ht_I D A s.heap (ht_X ad dA (nI ln) (nI cn) (nI tn) ((ht_fold (nI ln) CR CS nd nn sm ((-1), bb, bt, bo) (f * 7)).1) ((ht_fold (nI ln) CR CS nd nn sm ((-1), bb, bt, bo) (f * 7)).2.1) ((ht_fold (nI ln) CR CS nd nn sm ((-1), bb, bt, bo) (f * 7)).2.2.1) ((ht_fold (nI ln) CR CS nd nn sm ((-1), bb, bt, bo) (f * 7)).2.2.2) F T SF SB LV NR RE ND CR CS) H locs → ∀ ls : Array Slot, lv_has ls 8 [(4, .int (nI f)), (0, .ref (ad 0)), (1, .int (nI nd)), (2, .int nn), (3, .int sm)] → W p l e (ht_Rm 1 38) s m ([.ref (ad 0), .int (nI nd), .int nn, .int sm] : List Value).toArray below meth c H locs 0 0 (MQ below (va_Qv (fun (u : ht_B) => u = ht_fold (nI ln) CR CS nd nn sm ((-1), bb, bt, bo) (21)) (fun u t => ht_Po D dA A ((fun (u : ht_B) => ht_X ad dA (nI ln) (nI cn) (nI tn) u.1 u.2.1 u.2.2.1 u.2.2.2 F T SF SB LV NR RE ND CR CS) u) t) A) ([.ref (ad 0), .int (nI nd), .int nn, .int sm] : List Value).toArray s 0 0 A) (F0 m 8 ls []) := by
    intro n
    induction n with
    | zero =>
      intro f hf H locs I ls hl
      refine lv_iload hx hb dX1_findSplit_8 (lv_at hl 0 rfl) ?_
      refine lv_iconst (v := nI 3) hx hb dX1_findSplit_10 (by decide) ?_
      refine ht_ge (tgt := 106) hx hb dX1_findSplit_11 (by decide) (by omega) (by omega) (fun c_1 => ?_) (fun c_1 => ?_)
      · exact ht_vret hx hb hr hlk hK I (w2 := fun (u : ht_B) => ht_X ad dA (nI ln) (nI cn) (nI tn) u.1 u.2.1 u.2.2.1 u.2.2.2 F T SF SB LV NR RE ND CR CS) (ht_fold (nI ln) CR CS nd nn sm ((-1), bb, bt, bo) (f * 7)) (by rw [show f * 7 = 21 by omega]) rfl dX1_findSplit_106
      · exact absurd c_1 (by omega)
    | succ n ih =>
      intro f hf H locs I ls hl
      refine lv_iload hx hb dX1_findSplit_8 (lv_at hl 0 rfl) ?_
      refine lv_iconst (v := nI 3) hx hb dX1_findSplit_10 (by decide) ?_
      refine ht_ge (tgt := 106) hx hb dX1_findSplit_11 (by decide) (by omega) (by omega) (fun c_2 => ?_) (fun c_2 => ?_)
      · exact absurd c_2 (by omega)
      · have inner : ∀ (n2 b : Nat), b + n2 = 7 → ∀ (H : Heap) (locs : List Loc), ht_I D A s.heap (ht_X ad dA (nI ln) (nI cn) (nI tn) ((ht_fold (nI ln) CR CS nd nn sm ((-1), bb, bt, bo) (f * 7 + b)).1) ((ht_fold (nI ln) CR CS nd nn sm ((-1), bb, bt, bo) (f * 7 + b)).2.1) ((ht_fold (nI ln) CR CS nd nn sm ((-1), bb, bt, bo) (f * 7 + b)).2.2.1) ((ht_fold (nI ln) CR CS nd nn sm ((-1), bb, bt, bo) (f * 7 + b)).2.2.2) F T SF SB LV NR RE ND CR CS) H locs → ∀ ls : Array Slot, lv_has ls 8 [(7, .int (nI b)), (6, .int (ht_fs CS (nd * 24 + f * 8) b)), (5, .int (ht_fs CR (nd * 24 + f * 8) b)), (4, .int (nI f)), (0, .ref (ad 0)), (1, .int (nI nd)), (2, .int nn), (3, .int sm)] → W p l e (ht_Rm 1 38) s m ([.ref (ad 0), .int (nI nd), .int nn, .int sm] : List Value).toArray below meth c H locs 0 0 (MQ below (va_Qv (fun (u : ht_B) => u = ht_fold (nI ln) CR CS nd nn sm ((-1), bb, bt, bo) (21)) (fun u t => ht_Po D dA A ((fun (u : ht_B) => ht_X ad dA (nI ln) (nI cn) (nI tn) u.1 u.2.1 u.2.2.1 u.2.2.2 F T SF SB LV NR RE ND CR CS) u) t) A) ([.ref (ad 0), .int (nI nd), .int nn, .int sm] : List Value).toArray s 0 0 A) (F0 m 23 ls []) := by
          intro n2
          induction n2 with
          | zero =>
            intro b hb2 H locs I ls hl
            refine lv_iload hx hb dX1_findSplit_23 (lv_at hl 0 rfl) ?_
            refine lv_bipush (v := nI 7) hx hb dX1_findSplit_25 (by decide) ?_
            refine ht_ge (tgt := 100) hx hb dX1_findSplit_27 (by decide) (by omega) (by omega) (fun c_3 => ?_) (fun c_3 => ?_)
            · refine lv_iinc (v := (nI (f + 1))) (lv' := [(4, .int (nI (f + 1))), (7, .int (nI b)), (6, .int (ht_fs CS (nd * 24 + f * 8) b)), (5, .int (ht_fs CR (nd * 24 + f * 8) b)), (0, .ref (ad 0)), (1, .int (nI nd)), (2, .int nn), (3, .int sm)]) hx hb dX1_findSplit_100 hl (k := 3) rfl (nI_add f 1) (by decide) rfl (fun ls hl => ?_)
              refine lv_goto (tgt := 8) hx hb dX1_findSplit_103 (by decide) ?_
              rw [show f * 7 + b = (f + 1) * 7 by omega] at I
              exact ih (f + 1) (by omega) _ _ I ls (lv_sub hl [0, 4, 5, 6, 7] rfl)
            · exact absurd c_3 (by omega)
          | succ n2 ih2 =>
            intro b hb2 H locs I ls hl
            refine lv_iload hx hb dX1_findSplit_23 (lv_at hl 0 rfl) ?_
            refine lv_bipush (v := nI 7) hx hb dX1_findSplit_25 (by decide) ?_
            refine ht_ge (tgt := 100) hx hb dX1_findSplit_27 (by decide) (by omega) (by omega) (fun c_4 => ?_) (fun c_4 => ?_)
            · exact absurd c_4 (by omega)
            · refine lv_iload hx hb dX1_findSplit_30 (lv_at hl 2 rfl) ?_
              refine lv_aload_n hx hb dX1_findSplit_32 rfl (lv_at hl 4 rfl) ?_
              refine ht_getX hx hb hts hown hK I 11 (by decide) q47 rfl rfl dX1_findSplit_33 ?_
              refine lv_iload_n hx hb dX1_findSplit_36 rfl (lv_at hl 5 rfl) ?_
              refine lv_bipush (v := nI 24) hx hb dX1_findSplit_37 (by decide) ?_
              refine lv_imul hx hb dX1_findSplit_39 ?_
              refine ht_ti (pk_mul nd 24) ?_
              refine lv_iload hx hb dX1_findSplit_40 (lv_at hl 3 rfl) ?_
              refine lv_bipush (v := nI 8) hx hb dX1_findSplit_42 (by decide) ?_
              refine lv_imul hx hb dX1_findSplit_44 ?_
              refine ht_ti (pk_mul f 8) ?_
              refine lv_iadd hx hb dX1_findSplit_45 ?_
              refine ht_ti (nI_add (nd * 24) (f * 8)) ?_
              refine lv_iload hx hb dX1_findSplit_46 (lv_at hl 0 rfl) ?_
              refine lv_iadd hx hb dX1_findSplit_48 ?_
              refine ht_ti (nI_add (nd * 24 + (f * 8)) b) ?_
              refine ht_ald hx hb hK I 9 rfl (by omega) dX1_findSplit_49 ?_
              refine lv_iadd hx hb dX1_findSplit_50 ?_
              refine lv_istore (lv' := [(5, .int ((ht_fs CR (nd * 24 + f * 8) b) + (CR (nd * 24 + (f * 8) + b)))), (7, .int (nI b)), (6, .int (ht_fs CS (nd * 24 + f * 8) b)), (4, .int (nI f)), (0, .ref (ad 0)), (1, .int (nI nd)), (2, .int nn), (3, .int sm)]) hx hb dX1_findSplit_51 hl (by decide) rfl (fun ls hl => ?_)
              refine lv_iload hx hb dX1_findSplit_53 (lv_at hl 2 rfl) ?_
              refine lv_aload_n hx hb dX1_findSplit_55 rfl (lv_at hl 4 rfl) ?_
              refine ht_getX hx hb hts hown hK I 12 (by decide) q48 rfl rfl dX1_findSplit_56 ?_
              refine lv_iload_n hx hb dX1_findSplit_59 rfl (lv_at hl 5 rfl) ?_
              refine lv_bipush (v := nI 24) hx hb dX1_findSplit_60 (by decide) ?_
              refine lv_imul hx hb dX1_findSplit_62 ?_
              refine ht_ti (pk_mul nd 24) ?_
              refine lv_iload hx hb dX1_findSplit_63 (lv_at hl 3 rfl) ?_
              refine lv_bipush (v := nI 8) hx hb dX1_findSplit_65 (by decide) ?_
              refine lv_imul hx hb dX1_findSplit_67 ?_
              refine ht_ti (pk_mul f 8) ?_
              refine lv_iadd hx hb dX1_findSplit_68 ?_
              refine ht_ti (nI_add (nd * 24) (f * 8)) ?_
              refine lv_iload hx hb dX1_findSplit_69 (lv_at hl 1 rfl) ?_
              refine lv_iadd hx hb dX1_findSplit_71 ?_
              refine ht_ti (nI_add (nd * 24 + (f * 8)) b) ?_
              refine ht_ald hx hb hK I 10 rfl (by omega) dX1_findSplit_72 ?_
              refine lv_iadd hx hb dX1_findSplit_73 ?_
              refine lv_istore (lv' := [(6, .int ((ht_fs CS (nd * 24 + f * 8) b) + (CS (nd * 24 + (f * 8) + b)))), (5, .int ((ht_fs CR (nd * 24 + f * 8) b) + (CR (nd * 24 + (f * 8) + b)))), (7, .int (nI b)), (4, .int (nI f)), (0, .ref (ad 0)), (1, .int (nI nd)), (2, .int nn), (3, .int sm)]) hx hb dX1_findSplit_74 hl (by decide) rfl (fun ls hl => ?_)
              refine lv_aload_n hx hb dX1_findSplit_76 rfl (lv_at hl 4 rfl) ?_
              refine lv_iload hx hb dX1_findSplit_77 (lv_at hl 3 rfl) ?_
              refine lv_iload hx hb dX1_findSplit_79 (lv_at hl 2 rfl) ?_
              refine lv_iload hx hb dX1_findSplit_81 (lv_at hl 1 rfl) ?_
              refine lv_i2l (v := ((ht_fs CR (nd * 24 + f * 8) b) + (CR (nd * 24 + (f * 8) + b))).toInt64) hx hb dX1_findSplit_83 rfl ?_
              refine lv_iload hx hb dX1_findSplit_84 (lv_at hl 0 rfl) ?_
              refine lv_i2l (v := ((ht_fs CS (nd * 24 + f * 8) b) + (CS (nd * 24 + (f * 8) + b))).toInt64) hx hb dX1_findSplit_86 rfl ?_
              refine lv_iload_n hx hb dX1_findSplit_87 rfl (lv_at hl 6 rfl) ?_
              refine lv_i2l (v := nn.toInt64) hx hb dX1_findSplit_88 rfl ?_
              refine lv_iload_n hx hb dX1_findSplit_89 rfl (lv_at hl 7 rfl) ?_
              refine lv_i2l (v := sm.toInt64) hx hb dX1_findSplit_90 rfl ?_
              have e_ := ht_fold_s (nI ln) CR CS nd nn sm ((-1), bb, bt, bo) f b (by omega)
              refine ht_callVv (As := [.int (nI f), .int (nI b), .long (((ht_fs CR (nd * 24 + f * 8) b) + (CR (nd * 24 + (f * 8) + b))).toInt64), .long (((ht_fs CS (nd * 24 + f * 8) b) + (CS (nd * 24 + (f * 8) + b))).toInt64), .long nn.toInt64, .long sm.toInt64]) (rest := []) (wr := []) (q0 := 0) (ci := 0) hx hb hml hown hts hK hA I (xt_tryLeft l D dA ad ln cn tn ((ht_fold (nI ln) CR CS nd nn sm ((-1), bb, bt, bo) (f * 7 + b)).1) ((ht_fold (nI ln) CR CS nd nn sm ((-1), bb, bt, bo) (f * 7 + b)).2.1) ((ht_fold (nI ln) CR CS nd nn sm ((-1), bb, bt, bo) (f * 7 + b)).2.2.1) ((ht_fold (nI ln) CR CS nd nn sm ((-1), bb, bt, bo) (f * 7 + b)).2.2.2) F T SF SB LV NR RE ND CR CS (nI f) (nI b) ((ht_fs CR (nd * 24 + f * 8) b) + (CR (nd * 24 + (f * 8) + b))).toInt64 ((ht_fs CS (nd * 24 + f * 8) b) + (CS (nd * 24 + (f * 8) + b))).toInt64 nn.toInt64 sm.toInt64) (cwV 6 hts (lw_V q148 q150 qs11 q26 q151) rfl rfl rfl (by decide +kernel) (by decide)) rfl rfl [0, 1, 2, 3, 4, 5, 6, 7, 8, 9, 10] [] rfl rfl (by decide) (by decide) (by decide) rfl hl.1 rfl (Nat.le_of_ble_eq_true rfl) dX1_findSplit_91 (by decide) (fun u H locs hp I => ?_)
              have hp : u = ht_fold (nI ln) CR CS nd nn sm ((-1), bb, bt, bo) (f * 7 + b + 1) := hp.trans e_.symm
              subst hp
              have I : ht_I D A s.heap (ht_X ad dA (nI ln) (nI cn) (nI tn) ((ht_fold (nI ln) CR CS nd nn sm ((-1), bb, bt, bo) (f * 7 + b + 1)).1) ((ht_fold (nI ln) CR CS nd nn sm ((-1), bb, bt, bo) (f * 7 + b + 1)).2.1) ((ht_fold (nI ln) CR CS nd nn sm ((-1), bb, bt, bo) (f * 7 + b + 1)).2.2.1) ((ht_fold (nI ln) CR CS nd nn sm ((-1), bb, bt, bo) (f * 7 + b + 1)).2.2.2) F T SF SB LV NR RE ND CR CS) H locs := I
              refine lv_iinc (v := (nI (b + 1))) (lv' := [(7, .int (nI (b + 1))), (6, .int ((ht_fs CS (nd * 24 + f * 8) b) + (CS (nd * 24 + (f * 8) + b)))), (5, .int ((ht_fs CR (nd * 24 + f * 8) b) + (CR (nd * 24 + (f * 8) + b)))), (4, .int (nI f)), (0, .ref (ad 0)), (1, .int (nI nd)), (2, .int nn), (3, .int sm)]) hx hb dX1_findSplit_94 hl (k := 2) rfl (nI_add b 1) (by decide) rfl (fun ls hl => ?_)
              refine lv_goto (tgt := 23) hx hb dX1_findSplit_97 (by decide) ?_
              exact ih2 (b + 1) (by omega) _ _ I ls (lv_sub hl [0, 1, 2, 3, 4, 5, 6, 7] rfl)
        refine lv_iconst (v := nI 0) hx hb dX1_findSplit_14 (by decide) ?_
        refine lv_istore (lv' := [(5, .int (nI 0)), (4, .int (nI f)), (0, .ref (ad 0)), (1, .int (nI nd)), (2, .int nn), (3, .int sm)]) hx hb dX1_findSplit_15 hl (by decide) rfl (fun ls hl => ?_)
        refine lv_iconst (v := nI 0) hx hb dX1_findSplit_17 (by decide) ?_
        refine lv_istore (lv' := [(6, .int (nI 0)), (5, .int (nI 0)), (4, .int (nI f)), (0, .ref (ad 0)), (1, .int (nI nd)), (2, .int nn), (3, .int sm)]) hx hb dX1_findSplit_18 hl (by decide) rfl (fun ls hl => ?_)
        refine lv_iconst (v := nI 0) hx hb dX1_findSplit_20 (by decide) ?_
        refine lv_istore (lv' := [(7, .int (nI 0)), (6, .int (nI 0)), (5, .int (nI 0)), (4, .int (nI f)), (0, .ref (ad 0)), (1, .int (nI nd)), (2, .int nn), (3, .int sm)]) hx hb dX1_findSplit_21 hl (by decide) rfl (fun ls hl => ?_)
        exact inner 7 0 (by omega) _ _ I ls (lv_sub hl [0, 1, 2, 3, 4, 5, 6, 7] rfl)
  refine lv_aload_n hx hb dX1_findSplit_0 rfl (lv_at hl 0 rfl) ?_
  refine lv_iconst (v := (-1)) hx hb dX1_findSplit_1 (by decide) ?_
  refine ht_putX (ty := .int) (w3 := ht_X ad dA (nI ln) (nI cn) (nI tn) (-1 : Int32) bb bt bo F T SF SB LV NR RE ND CR CS) hx hb hts hown hK I 13 (by decide) q49 rfl (by decide +kernel) rfl rfl rfl (Nat.le_of_ble_eq_true rfl) rfl dX1_findSplit_2 (fun H locs I => ?_)
  refine lv_iconst (v := nI 0) hx hb dX1_findSplit_5 (by decide) ?_
  refine lv_istore (lv' := [(4, .int (nI 0)), (0, .ref (ad 0)), (1, .int (nI nd)), (2, .int nn), (3, .int sm)]) hx hb dX1_findSplit_6 hl (by decide) rfl (fun ls hl => ?_)
  exact loop 3 0 (by omega) _ _ I ls (lv_sub hl [0, 1, 2, 3, 4] rfl)
end
section
variable (l : Launch) (D : va_G) (dA : ClassId) (ad : Nat → Nat) (ln cn tn : Nat) (bf bb : Int32) (bt bo : Int64) (F T SF SB LV NR RE ND CR CS : Nat → Int32)
set_option maxHeartbeats 4000000 in
set_option maxRecDepth 100000 in
theorem xt_splitNode (t nd : Nat) (ht : t < 4) (hnd : nd < 7) : ht_MI l D dA yX1_splitNode (ws_ yX1_splitNode cX1_splitNode 8 (some .boolean)) 2 65 [.ref (ad 0), .int (nI t), .int (nI nd)] (ht_X ad dA (nI ln) (nI cn) (nI tn) bf bb bt bo F T SF SB LV NR RE ND CR CS) (S := ht_f3 × ht_f3 × ht_f3 × ht_B) (fun (r : Int32) (u : ht_f3 × ht_f3 × ht_f3 × ht_B) => (r, u.1, u.2.1, u.2.2.1) = ht_sn SF SB LV (t * 7 + nd) (ht_fs CR (nd * 24) 8) (ht_fs CS (nd * 24) 8) u.2.2.2 ∧ u.2.2.2 = ht_best (nI ln) CR CS nd (ht_fs CR (nd * 24) 8) (ht_fs CS (nd * 24) 8) (bf, bb, bt, bo)) (fun (u : ht_f3 × ht_f3 × ht_f3 × ht_B) => ht_X ad dA (nI ln) (nI cn) (nI tn) u.2.2.2.1 u.2.2.2.2.1 u.2.2.2.2.2.1 u.2.2.2.2.2.2 F T u.1 u.2.1 u.2.2.1 (upd NR (t * 7 + nd) (ht_fs CR (nd * 24) 8)) RE ND CR CS) := by
  refine ht_MI_of (by decide) (Nat.le_of_ble_eq_true rfl) ?_
  intro p e s m below meth c A hx hb hr hlk hml hown hts hK hA I ls hl
  have hown : s.vm.findClass RX1 = some m.cls := hown
  have hl : lv_has ls 8 [(0, .ref (ad 0)), (1, .int (nI t)), (2, .int (nI nd))] := hl
  refine lv_iload_n hx hb dX1_splitNode_0 rfl (lv_at hl 1 rfl) ?_
  refine lv_bipush (v := nI 7) hx hb dX1_splitNode_1 (by decide) ?_
  refine lv_imul hx hb dX1_splitNode_3 ?_
  refine ht_ti (pk_mul t 7) ?_
  refine lv_iload_n hx hb dX1_splitNode_4 rfl (lv_at hl 2 rfl) ?_
  refine lv_iadd hx hb dX1_splitNode_5 ?_
  refine ht_ti (nI_add (t * 7) nd) ?_
  refine lv_istore_n (lv' := [(3, .int (nI (t * 7 + nd))), (0, .ref (ad 0)), (1, .int (nI t)), (2, .int (nI nd))]) hx hb dX1_splitNode_6 rfl hl (by decide) rfl (fun ls hl => ?_)
  refine lv_aload_n hx hb dX1_splitNode_7 rfl (lv_at hl 1 rfl) ?_
  refine lv_iload_n hx hb dX1_splitNode_8 rfl (lv_at hl 3 rfl) ?_
  refine ht_callVi (As := [.int (nI nd)]) (rest := []) (wr := []) (q0 := 0) (ci := 0) hx hb hml hown hts hK hA I (xt_rowsIn l D dA ad ln cn tn bf bb bt bo F T SF SB LV NR RE ND CR CS nd hnd) (cwV 1 hts (lw_V q136 q138 qs8 q26 q139) rfl rfl rfl (by decide +kernel) (by decide)) rfl rfl [0, 1, 2, 3, 4, 5, 6, 7, 8, 9, 10] [] rfl rfl (by decide) (by decide) (by decide) rfl hl.1 rfl (Nat.le_of_ble_eq_true rfl) dX1_splitNode_9 (by decide) (fun r u H locs hp I => ?_)
  subst hp
  have I : ht_I D A s.heap (ht_X ad dA (nI ln) (nI cn) (nI tn) bf bb bt bo F T SF SB LV NR RE ND CR CS) H locs := I
  refine lv_istore (lv' := [(4, .int (ht_fs CR (nd * 24) 8)), (3, .int (nI (t * 7 + nd))), (0, .ref (ad 0)), (1, .int (nI t)), (2, .int (nI nd))]) hx hb dX1_splitNode_12 hl (by decide) rfl (fun ls hl => ?_)
  refine lv_aload_n hx hb dX1_splitNode_14 rfl (lv_at hl 2 rfl) ?_
  refine lv_iload_n hx hb dX1_splitNode_15 rfl (lv_at hl 4 rfl) ?_
  refine ht_callVi (As := [.int (nI nd)]) (rest := []) (wr := []) (q0 := 0) (ci := 0) hx hb hml hown hts hK hA I (xt_sumIn l D dA ad ln cn tn bf bb bt bo F T SF SB LV NR RE ND CR CS nd hnd) (cwV 1 hts (lw_V q140 q142 qs9 q26 q143) rfl rfl rfl (by decide +kernel) (by decide)) rfl rfl [0, 1, 2, 3, 4, 5, 6, 7, 8, 9, 10] [] rfl rfl (by decide) (by decide) (by decide) rfl hl.1 rfl (Nat.le_of_ble_eq_true rfl) dX1_splitNode_16 (by decide) (fun r u H locs hp I => ?_)
  subst hp
  have I : ht_I D A s.heap (ht_X ad dA (nI ln) (nI cn) (nI tn) bf bb bt bo F T SF SB LV NR RE ND CR CS) H locs := I
  refine lv_istore (lv' := [(5, .int (ht_fs CS (nd * 24) 8)), (4, .int (ht_fs CR (nd * 24) 8)), (3, .int (nI (t * 7 + nd))), (0, .ref (ad 0)), (1, .int (nI t)), (2, .int (nI nd))]) hx hb dX1_splitNode_19 hl (by decide) rfl (fun ls hl => ?_)
  refine lv_aload_n hx hb dX1_splitNode_21 rfl (lv_at hl 3 rfl) ?_
  refine ht_getX hx hb hts hown hK I 8 (by decide) q44 rfl rfl dX1_splitNode_22 ?_
  refine lv_iload_n hx hb dX1_splitNode_25 rfl (lv_at hl 2 rfl) ?_
  refine lv_iload hx hb dX1_splitNode_26 (lv_at hl 1 rfl) ?_
  refine ht_ast (w3 := ht_X ad dA (nI ln) (nI cn) (nI tn) bf bb bt bo F T SF SB LV (upd NR (t * 7 + nd) (ht_fs CR (nd * 24) 8)) RE ND CR CS) hx hb hK I 6 rfl (by omega) rfl dX1_splitNode_28 (fun H locs I => ?_)
  refine lv_aload_n hx hb dX1_splitNode_29 rfl (lv_at hl 3 rfl) ?_
  refine lv_iconst (v := (-1)) hx hb dX1_splitNode_30 (by decide) ?_
  refine ht_putX (ty := .int) (w3 := ht_X ad dA (nI ln) (nI cn) (nI tn) (-1 : Int32) bb bt bo F T SF SB LV (upd NR (t * 7 + nd) (ht_fs CR (nd * 24) 8)) RE ND CR CS) hx hb hts hown hK I 13 (by decide) q49 rfl (by decide +kernel) rfl rfl rfl (Nat.le_of_ble_eq_true rfl) rfl dX1_splitNode_31 (fun H locs I => ?_)
  refine lv_iload_n hx hb dX1_splitNode_34 rfl (lv_at hl 5 rfl) ?_
  refine lv_iconst (v := nI 3) hx hb dX1_splitNode_35 (by decide) ?_
  refine ht_ge (tgt := 48) hx hb dX1_splitNode_36 (by decide) (by omega) (by omega) (fun c_1 => ?_) (fun c_1 => ?_)
  · refine lv_iload hx hb dX1_splitNode_48 (lv_at hl 0 rfl) ?_
    refine lv_i2l (v := (ht_fs CS (nd * 24) 8).toInt64) hx hb dX1_splitNode_50 rfl ?_
    refine lv_iload hx hb dX1_splitNode_51 (lv_at hl 0 rfl) ?_
    refine lv_i2l (v := (ht_fs CS (nd * 24) 8).toInt64) hx hb dX1_splitNode_53 rfl ?_
    refine lv_lmul hx hb dX1_splitNode_54 ?_
    refine lv_lstore (lv' := [(6, .long (((ht_fs CS (nd * 24) 8).toInt64) * ((ht_fs CS (nd * 24) 8).toInt64))), (5, .int (ht_fs CS (nd * 24) 8)), (4, .int (ht_fs CR (nd * 24) 8)), (3, .int (nI (t * 7 + nd))), (0, .ref (ad 0)), (1, .int (nI t)), (2, .int (nI nd))]) hx hb dX1_splitNode_55 hl (by decide) rfl (fun ls hl => ?_)
    refine lv_aload_n hx hb dX1_splitNode_57 rfl (lv_at hl 4 rfl) ?_
    refine ht_getX hx hb hts hown hK I 13 (by decide) q49 rfl rfl dX1_splitNode_58 ?_
    refine lv_if_lt (tgt := 83) hx hb dX1_splitNode_61 (by decide) (fun c_2 => ?_) (fun c_2 => ?_)
    · refine lv_aload_n hx hb dX1_splitNode_83 rfl (lv_at hl 4 rfl) ?_
      refine lv_iload_n hx hb dX1_splitNode_84 rfl (lv_at hl 3 rfl) ?_
      refine lv_iload hx hb dX1_splitNode_85 (lv_at hl 2 rfl) ?_
      refine lv_iload hx hb dX1_splitNode_87 (lv_at hl 1 rfl) ?_
      refine ht_callVv (As := [.int (nI (t * 7 + nd)), .int (ht_fs CR (nd * 24) 8), .int (ht_fs CS (nd * 24) 8)]) (rest := []) (wr := []) (q0 := 0) (ci := 0) hx hb hml hown hts hK hA I (xt_makeLeaf l D dA ad ln cn tn (-1 : Int32) bb bt bo F T SF SB LV (upd NR (t * 7 + nd) (ht_fs CR (nd * 24) 8)) RE ND CR CS (t * 7 + nd) (ht_fs CR (nd * 24) 8) (ht_fs CS (nd * 24) 8) (by omega)) (cwV 3 hts (lw_V q152 q154 qs12 q26 q155) rfl rfl rfl (by decide +kernel) (by decide)) rfl rfl [0, 1, 2, 3, 4, 5, 6, 7, 8, 9, 10] [] rfl rfl (by decide) (by decide) (by decide) rfl hl.1 rfl (Nat.le_of_ble_eq_true rfl) dX1_splitNode_89 (by decide) (fun u H locs hp I => ?_)
      have I : ht_I D A s.heap (ht_X ad dA (nI ln) (nI cn) (nI tn) (-1 : Int32) bb bt bo F T (upd SF (t * 7 + nd) (-6)) SB (upd LV (t * 7 + nd) (ht_dv (ht_fs CS (nd * 24) 8) (ht_fs CR (nd * 24) 8))) (upd NR (t * 7 + nd) (ht_fs CR (nd * 24) 8)) RE ND CR CS) H locs := I
      refine lv_iconst (v := nI 0) hx hb dX1_splitNode_92 (by decide) ?_
      exact ht_zret hx hb hr rfl hlk hK I (w2 := fun (u : ht_f3 × ht_f3 × ht_f3 × ht_B) => ht_X ad dA (nI ln) (nI cn) (nI tn) u.2.2.2.1 u.2.2.2.2.1 u.2.2.2.2.2.1 u.2.2.2.2.2.2 F T u.1 u.2.1 u.2.2.1 (upd NR (t * 7 + nd) (ht_fs CR (nd * 24) 8)) RE ND CR CS) (upd SF (t * 7 + nd) (-6), SB, upd LV (t * 7 + nd) (ht_dv (ht_fs CS (nd * 24) 8) (ht_fs CR (nd * 24) 8)), ((-1), bb, bt, bo)) ⟨by unfold ht_sn; (try dsimp only); rw [if_pos c_2], by unfold ht_best; rw [if_neg (by omega)]⟩ rfl dX1_splitNode_93
    · refine lv_aload_n hx hb dX1_splitNode_64 rfl (lv_at hl 4 rfl) ?_
      refine ht_getX hx hb hts hown hK I 15 (by decide) q51 rfl rfl dX1_splitNode_65 ?_
      refine lv_iload hx hb dX1_splitNode_68 (lv_at hl 2 rfl) ?_
      refine lv_i2l (v := (ht_fs CR (nd * 24) 8).toInt64) hx hb dX1_splitNode_70 rfl ?_
      refine lv_lmul hx hb dX1_splitNode_71 ?_
      refine lv_lload hx hb dX1_splitNode_72 (lv_at hl 0 rfl) ?_
      refine lv_aload_n hx hb dX1_splitNode_74 rfl (lv_at hl 4 rfl) ?_
      refine ht_getX hx hb hts hown hK I 16 (by decide) q52 rfl rfl dX1_splitNode_75 ?_
      refine lv_lmul hx hb dX1_splitNode_78 ?_
      refine W.lcmp hx hb dX1_splitNode_79 ?_
      refine lv_if_gt (tgt := 94) hx hb dX1_splitNode_80 (by decide) (fun c_3 => ?_) (fun c_3 => ?_)
      · have c_3 := (lg_cmp_gt _ _).mp c_3
        refine lv_aload_n hx hb dX1_splitNode_94 rfl (lv_at hl 4 rfl) ?_
        refine ht_getX hx hb hts hown hK I 5 (by decide) q41 rfl rfl dX1_splitNode_95 ?_
        refine lv_iload_n hx hb dX1_splitNode_98 rfl (lv_at hl 3 rfl) ?_
        refine lv_aload_n hx hb dX1_splitNode_99 rfl (lv_at hl 4 rfl) ?_
        refine ht_getX hx hb hts hown hK I 13 (by decide) q49 rfl rfl dX1_splitNode_100 ?_
        refine ht_ast (w3 := ht_X ad dA (nI ln) (nI cn) (nI tn) (-1 : Int32) bb bt bo F T (upd SF (t * 7 + nd) (-1 : Int32)) SB LV (upd NR (t * 7 + nd) (ht_fs CR (nd * 24) 8)) RE ND CR CS) hx hb hK I 3 rfl (by omega) rfl dX1_splitNode_103 (fun H locs I => ?_)
        refine lv_aload_n hx hb dX1_splitNode_104 rfl (lv_at hl 4 rfl) ?_
        refine ht_getX hx hb hts hown hK I 6 (by decide) q42 rfl rfl dX1_splitNode_105 ?_
        refine lv_iload_n hx hb dX1_splitNode_108 rfl (lv_at hl 3 rfl) ?_
        refine lv_aload_n hx hb dX1_splitNode_109 rfl (lv_at hl 4 rfl) ?_
        refine ht_getX hx hb hts hown hK I 14 (by decide) q50 rfl rfl dX1_splitNode_110 ?_
        refine ht_ast (w3 := ht_X ad dA (nI ln) (nI cn) (nI tn) (-1 : Int32) bb bt bo F T (upd SF (t * 7 + nd) (-1 : Int32)) (upd SB (t * 7 + nd) bb) LV (upd NR (t * 7 + nd) (ht_fs CR (nd * 24) 8)) RE ND CR CS) hx hb hK I 4 rfl (by omega) rfl dX1_splitNode_113 (fun H locs I => ?_)
        refine lv_aload_n hx hb dX1_splitNode_114 rfl (lv_at hl 4 rfl) ?_
        refine ht_getX hx hb hts hown hK I 7 (by decide) q43 rfl rfl dX1_splitNode_115 ?_
        refine lv_iload_n hx hb dX1_splitNode_118 rfl (lv_at hl 3 rfl) ?_
        refine lv_iconst (v := nI 0) hx hb dX1_splitNode_119 (by decide) ?_
        refine ht_ast (w3 := ht_X ad dA (nI ln) (nI cn) (nI tn) (-1 : Int32) bb bt bo F T (upd SF (t * 7 + nd) (-1 : Int32)) (upd SB (t * 7 + nd) bb) (upd LV (t * 7 + nd) (nI 0)) (upd NR (t * 7 + nd) (ht_fs CR (nd * 24) 8)) RE ND CR CS) hx hb hK I 5 rfl (by omega) rfl dX1_splitNode_120 (fun H locs I => ?_)
        refine lv_iconst (v := nI 1) hx hb dX1_splitNode_121 (by decide) ?_
        exact ht_zret hx hb hr rfl hlk hK I (w2 := fun (u : ht_f3 × ht_f3 × ht_f3 × ht_B) => ht_X ad dA (nI ln) (nI cn) (nI tn) u.2.2.2.1 u.2.2.2.2.1 u.2.2.2.2.2.1 u.2.2.2.2.2.2 F T u.1 u.2.1 u.2.2.1 (upd NR (t * 7 + nd) (ht_fs CR (nd * 24) 8)) RE ND CR CS) (upd SF (t * 7 + nd) (-1 : Int32), upd SB (t * 7 + nd) bb, upd LV (t * 7 + nd) (nI 0), ((-1), bb, bt, bo)) ⟨by unfold ht_sn; (try dsimp only); rw [if_neg c_2, if_pos c_3], by unfold ht_best; rw [if_neg (by omega)]⟩ rfl dX1_splitNode_122
      · have c_3 := fun q => c_3 ((lg_cmp_gt (bt * ((ht_fs CR (nd * 24) 8).toInt64)) ((((ht_fs CS (nd * 24) 8).toInt64) * ((ht_fs CS (nd * 24) 8).toInt64)) * bo)).mpr q)
        refine lv_aload_n hx hb dX1_splitNode_83 rfl (lv_at hl 4 rfl) ?_
        refine lv_iload_n hx hb dX1_splitNode_84 rfl (lv_at hl 3 rfl) ?_
        refine lv_iload hx hb dX1_splitNode_85 (lv_at hl 2 rfl) ?_
        refine lv_iload hx hb dX1_splitNode_87 (lv_at hl 1 rfl) ?_
        refine ht_callVv (As := [.int (nI (t * 7 + nd)), .int (ht_fs CR (nd * 24) 8), .int (ht_fs CS (nd * 24) 8)]) (rest := []) (wr := []) (q0 := 0) (ci := 0) hx hb hml hown hts hK hA I (xt_makeLeaf l D dA ad ln cn tn (-1 : Int32) bb bt bo F T SF SB LV (upd NR (t * 7 + nd) (ht_fs CR (nd * 24) 8)) RE ND CR CS (t * 7 + nd) (ht_fs CR (nd * 24) 8) (ht_fs CS (nd * 24) 8) (by omega)) (cwV 3 hts (lw_V q152 q154 qs12 q26 q155) rfl rfl rfl (by decide +kernel) (by decide)) rfl rfl [0, 1, 2, 3, 4, 5, 6, 7, 8, 9, 10] [] rfl rfl (by decide) (by decide) (by decide) rfl hl.1 rfl (Nat.le_of_ble_eq_true rfl) dX1_splitNode_89 (by decide) (fun u H locs hp I => ?_)
        have I : ht_I D A s.heap (ht_X ad dA (nI ln) (nI cn) (nI tn) (-1 : Int32) bb bt bo F T (upd SF (t * 7 + nd) (-6)) SB (upd LV (t * 7 + nd) (ht_dv (ht_fs CS (nd * 24) 8) (ht_fs CR (nd * 24) 8))) (upd NR (t * 7 + nd) (ht_fs CR (nd * 24) 8)) RE ND CR CS) H locs := I
        refine lv_iconst (v := nI 0) hx hb dX1_splitNode_92 (by decide) ?_
        exact ht_zret hx hb hr rfl hlk hK I (w2 := fun (u : ht_f3 × ht_f3 × ht_f3 × ht_B) => ht_X ad dA (nI ln) (nI cn) (nI tn) u.2.2.2.1 u.2.2.2.2.1 u.2.2.2.2.2.1 u.2.2.2.2.2.2 F T u.1 u.2.1 u.2.2.1 (upd NR (t * 7 + nd) (ht_fs CR (nd * 24) 8)) RE ND CR CS) (upd SF (t * 7 + nd) (-6), SB, upd LV (t * 7 + nd) (ht_dv (ht_fs CS (nd * 24) 8) (ht_fs CR (nd * 24) 8)), ((-1), bb, bt, bo)) ⟨by unfold ht_sn; (try dsimp only); rw [if_neg c_2, if_neg c_3], by unfold ht_best; rw [if_neg (by omega)]⟩ rfl dX1_splitNode_93
  · refine lv_aload_n hx hb dX1_splitNode_39 rfl (lv_at hl 3 rfl) ?_
    refine lv_iload_n hx hb dX1_splitNode_40 rfl (lv_at hl 5 rfl) ?_
    refine lv_iload hx hb dX1_splitNode_41 (lv_at hl 1 rfl) ?_
    refine lv_iload hx hb dX1_splitNode_43 (lv_at hl 0 rfl) ?_
    refine ht_callVv (As := [.int (nI nd), .int (ht_fs CR (nd * 24) 8), .int (ht_fs CS (nd * 24) 8)]) (rest := []) (wr := []) (q0 := 0) (ci := 0) hx hb hml hown hts hK hA I (xt_findSplit l D dA ad ln cn tn (-1 : Int32) bb bt bo F T SF SB LV (upd NR (t * 7 + nd) (ht_fs CR (nd * 24) 8)) RE ND CR CS nd (ht_fs CR (nd * 24) 8) (ht_fs CS (nd * 24) 8) hnd) (cwV 3 hts (lw_V q144 q146 qs10 q26 q147) rfl rfl rfl (by decide +kernel) (by decide)) rfl rfl [0, 1, 2, 3, 4, 5, 6, 7, 8, 9, 10] [] rfl rfl (by decide) (by decide) (by decide) rfl hl.1 rfl (Nat.le_of_ble_eq_true rfl) dX1_splitNode_45 (by decide) (fun u H locs hp I => ?_)
    subst hp
    have I : ht_I D A s.heap (ht_X ad dA (nI ln) (nI cn) (nI tn) ((ht_fold (nI ln) CR CS nd (ht_fs CR (nd * 24) 8) (ht_fs CS (nd * 24) 8) ((-1), bb, bt, bo) 21).1) ((ht_fold (nI ln) CR CS nd (ht_fs CR (nd * 24) 8) (ht_fs CS (nd * 24) 8) ((-1), bb, bt, bo) 21).2.1) ((ht_fold (nI ln) CR CS nd (ht_fs CR (nd * 24) 8) (ht_fs CS (nd * 24) 8) ((-1), bb, bt, bo) 21).2.2.1) ((ht_fold (nI ln) CR CS nd (ht_fs CR (nd * 24) 8) (ht_fs CS (nd * 24) 8) ((-1), bb, bt, bo) 21).2.2.2) F T SF SB LV (upd NR (t * 7 + nd) (ht_fs CR (nd * 24) 8)) RE ND CR CS) H locs := I
    refine lv_iload hx hb dX1_splitNode_48 (lv_at hl 0 rfl) ?_
    refine lv_i2l (v := (ht_fs CS (nd * 24) 8).toInt64) hx hb dX1_splitNode_50 rfl ?_
    refine lv_iload hx hb dX1_splitNode_51 (lv_at hl 0 rfl) ?_
    refine lv_i2l (v := (ht_fs CS (nd * 24) 8).toInt64) hx hb dX1_splitNode_53 rfl ?_
    refine lv_lmul hx hb dX1_splitNode_54 ?_
    refine lv_lstore (lv' := [(6, .long (((ht_fs CS (nd * 24) 8).toInt64) * ((ht_fs CS (nd * 24) 8).toInt64))), (5, .int (ht_fs CS (nd * 24) 8)), (4, .int (ht_fs CR (nd * 24) 8)), (3, .int (nI (t * 7 + nd))), (0, .ref (ad 0)), (1, .int (nI t)), (2, .int (nI nd))]) hx hb dX1_splitNode_55 hl (by decide) rfl (fun ls hl => ?_)
    refine lv_aload_n hx hb dX1_splitNode_57 rfl (lv_at hl 4 rfl) ?_
    refine ht_getX hx hb hts hown hK I 13 (by decide) q49 rfl rfl dX1_splitNode_58 ?_
    refine lv_if_lt (tgt := 83) hx hb dX1_splitNode_61 (by decide) (fun c_4 => ?_) (fun c_4 => ?_)
    · refine lv_aload_n hx hb dX1_splitNode_83 rfl (lv_at hl 4 rfl) ?_
      refine lv_iload_n hx hb dX1_splitNode_84 rfl (lv_at hl 3 rfl) ?_
      refine lv_iload hx hb dX1_splitNode_85 (lv_at hl 2 rfl) ?_
      refine lv_iload hx hb dX1_splitNode_87 (lv_at hl 1 rfl) ?_
      refine ht_callVv (As := [.int (nI (t * 7 + nd)), .int (ht_fs CR (nd * 24) 8), .int (ht_fs CS (nd * 24) 8)]) (rest := []) (wr := []) (q0 := 0) (ci := 0) hx hb hml hown hts hK hA I (xt_makeLeaf l D dA ad ln cn tn ((ht_fold (nI ln) CR CS nd (ht_fs CR (nd * 24) 8) (ht_fs CS (nd * 24) 8) ((-1), bb, bt, bo) 21).1) ((ht_fold (nI ln) CR CS nd (ht_fs CR (nd * 24) 8) (ht_fs CS (nd * 24) 8) ((-1), bb, bt, bo) 21).2.1) ((ht_fold (nI ln) CR CS nd (ht_fs CR (nd * 24) 8) (ht_fs CS (nd * 24) 8) ((-1), bb, bt, bo) 21).2.2.1) ((ht_fold (nI ln) CR CS nd (ht_fs CR (nd * 24) 8) (ht_fs CS (nd * 24) 8) ((-1), bb, bt, bo) 21).2.2.2) F T SF SB LV (upd NR (t * 7 + nd) (ht_fs CR (nd * 24) 8)) RE ND CR CS (t * 7 + nd) (ht_fs CR (nd * 24) 8) (ht_fs CS (nd * 24) 8) (by omega)) (cwV 3 hts (lw_V q152 q154 qs12 q26 q155) rfl rfl rfl (by decide +kernel) (by decide)) rfl rfl [0, 1, 2, 3, 4, 5, 6, 7, 8, 9, 10] [] rfl rfl (by decide) (by decide) (by decide) rfl hl.1 rfl (Nat.le_of_ble_eq_true rfl) dX1_splitNode_89 (by decide) (fun u H locs hp I => ?_)
      have I : ht_I D A s.heap (ht_X ad dA (nI ln) (nI cn) (nI tn) ((ht_fold (nI ln) CR CS nd (ht_fs CR (nd * 24) 8) (ht_fs CS (nd * 24) 8) ((-1), bb, bt, bo) 21).1) ((ht_fold (nI ln) CR CS nd (ht_fs CR (nd * 24) 8) (ht_fs CS (nd * 24) 8) ((-1), bb, bt, bo) 21).2.1) ((ht_fold (nI ln) CR CS nd (ht_fs CR (nd * 24) 8) (ht_fs CS (nd * 24) 8) ((-1), bb, bt, bo) 21).2.2.1) ((ht_fold (nI ln) CR CS nd (ht_fs CR (nd * 24) 8) (ht_fs CS (nd * 24) 8) ((-1), bb, bt, bo) 21).2.2.2) F T (upd SF (t * 7 + nd) (-6)) SB (upd LV (t * 7 + nd) (ht_dv (ht_fs CS (nd * 24) 8) (ht_fs CR (nd * 24) 8))) (upd NR (t * 7 + nd) (ht_fs CR (nd * 24) 8)) RE ND CR CS) H locs := I
      refine lv_iconst (v := nI 0) hx hb dX1_splitNode_92 (by decide) ?_
      exact ht_zret hx hb hr rfl hlk hK I (w2 := fun (u : ht_f3 × ht_f3 × ht_f3 × ht_B) => ht_X ad dA (nI ln) (nI cn) (nI tn) u.2.2.2.1 u.2.2.2.2.1 u.2.2.2.2.2.1 u.2.2.2.2.2.2 F T u.1 u.2.1 u.2.2.1 (upd NR (t * 7 + nd) (ht_fs CR (nd * 24) 8)) RE ND CR CS) (upd SF (t * 7 + nd) (-6), SB, upd LV (t * 7 + nd) (ht_dv (ht_fs CS (nd * 24) 8) (ht_fs CR (nd * 24) 8)), (ht_fold (nI ln) CR CS nd (ht_fs CR (nd * 24) 8) (ht_fs CS (nd * 24) 8) ((-1), bb, bt, bo) 21)) ⟨by unfold ht_sn; (try dsimp only); rw [if_pos c_4], by unfold ht_best; rw [if_pos (by omega)]⟩ rfl dX1_splitNode_93
    · refine lv_aload_n hx hb dX1_splitNode_64 rfl (lv_at hl 4 rfl) ?_
      refine ht_getX hx hb hts hown hK I 15 (by decide) q51 rfl rfl dX1_splitNode_65 ?_
      refine lv_iload hx hb dX1_splitNode_68 (lv_at hl 2 rfl) ?_
      refine lv_i2l (v := (ht_fs CR (nd * 24) 8).toInt64) hx hb dX1_splitNode_70 rfl ?_
      refine lv_lmul hx hb dX1_splitNode_71 ?_
      refine lv_lload hx hb dX1_splitNode_72 (lv_at hl 0 rfl) ?_
      refine lv_aload_n hx hb dX1_splitNode_74 rfl (lv_at hl 4 rfl) ?_
      refine ht_getX hx hb hts hown hK I 16 (by decide) q52 rfl rfl dX1_splitNode_75 ?_
      refine lv_lmul hx hb dX1_splitNode_78 ?_
      refine W.lcmp hx hb dX1_splitNode_79 ?_
      refine lv_if_gt (tgt := 94) hx hb dX1_splitNode_80 (by decide) (fun c_5 => ?_) (fun c_5 => ?_)
      · have c_5 := (lg_cmp_gt _ _).mp c_5
        refine lv_aload_n hx hb dX1_splitNode_94 rfl (lv_at hl 4 rfl) ?_
        refine ht_getX hx hb hts hown hK I 5 (by decide) q41 rfl rfl dX1_splitNode_95 ?_
        refine lv_iload_n hx hb dX1_splitNode_98 rfl (lv_at hl 3 rfl) ?_
        refine lv_aload_n hx hb dX1_splitNode_99 rfl (lv_at hl 4 rfl) ?_
        refine ht_getX hx hb hts hown hK I 13 (by decide) q49 rfl rfl dX1_splitNode_100 ?_
        refine ht_ast (w3 := ht_X ad dA (nI ln) (nI cn) (nI tn) ((ht_fold (nI ln) CR CS nd (ht_fs CR (nd * 24) 8) (ht_fs CS (nd * 24) 8) ((-1), bb, bt, bo) 21).1) ((ht_fold (nI ln) CR CS nd (ht_fs CR (nd * 24) 8) (ht_fs CS (nd * 24) 8) ((-1), bb, bt, bo) 21).2.1) ((ht_fold (nI ln) CR CS nd (ht_fs CR (nd * 24) 8) (ht_fs CS (nd * 24) 8) ((-1), bb, bt, bo) 21).2.2.1) ((ht_fold (nI ln) CR CS nd (ht_fs CR (nd * 24) 8) (ht_fs CS (nd * 24) 8) ((-1), bb, bt, bo) 21).2.2.2) F T (upd SF (t * 7 + nd) ((ht_fold (nI ln) CR CS nd (ht_fs CR (nd * 24) 8) (ht_fs CS (nd * 24) 8) ((-1), bb, bt, bo) 21).1)) SB LV (upd NR (t * 7 + nd) (ht_fs CR (nd * 24) 8)) RE ND CR CS) hx hb hK I 3 rfl (by omega) rfl dX1_splitNode_103 (fun H locs I => ?_)
        refine lv_aload_n hx hb dX1_splitNode_104 rfl (lv_at hl 4 rfl) ?_
        refine ht_getX hx hb hts hown hK I 6 (by decide) q42 rfl rfl dX1_splitNode_105 ?_
        refine lv_iload_n hx hb dX1_splitNode_108 rfl (lv_at hl 3 rfl) ?_
        refine lv_aload_n hx hb dX1_splitNode_109 rfl (lv_at hl 4 rfl) ?_
        refine ht_getX hx hb hts hown hK I 14 (by decide) q50 rfl rfl dX1_splitNode_110 ?_
        refine ht_ast (w3 := ht_X ad dA (nI ln) (nI cn) (nI tn) ((ht_fold (nI ln) CR CS nd (ht_fs CR (nd * 24) 8) (ht_fs CS (nd * 24) 8) ((-1), bb, bt, bo) 21).1) ((ht_fold (nI ln) CR CS nd (ht_fs CR (nd * 24) 8) (ht_fs CS (nd * 24) 8) ((-1), bb, bt, bo) 21).2.1) ((ht_fold (nI ln) CR CS nd (ht_fs CR (nd * 24) 8) (ht_fs CS (nd * 24) 8) ((-1), bb, bt, bo) 21).2.2.1) ((ht_fold (nI ln) CR CS nd (ht_fs CR (nd * 24) 8) (ht_fs CS (nd * 24) 8) ((-1), bb, bt, bo) 21).2.2.2) F T (upd SF (t * 7 + nd) ((ht_fold (nI ln) CR CS nd (ht_fs CR (nd * 24) 8) (ht_fs CS (nd * 24) 8) ((-1), bb, bt, bo) 21).1)) (upd SB (t * 7 + nd) ((ht_fold (nI ln) CR CS nd (ht_fs CR (nd * 24) 8) (ht_fs CS (nd * 24) 8) ((-1), bb, bt, bo) 21).2.1)) LV (upd NR (t * 7 + nd) (ht_fs CR (nd * 24) 8)) RE ND CR CS) hx hb hK I 4 rfl (by omega) rfl dX1_splitNode_113 (fun H locs I => ?_)
        refine lv_aload_n hx hb dX1_splitNode_114 rfl (lv_at hl 4 rfl) ?_
        refine ht_getX hx hb hts hown hK I 7 (by decide) q43 rfl rfl dX1_splitNode_115 ?_
        refine lv_iload_n hx hb dX1_splitNode_118 rfl (lv_at hl 3 rfl) ?_
        refine lv_iconst (v := nI 0) hx hb dX1_splitNode_119 (by decide) ?_
        refine ht_ast (w3 := ht_X ad dA (nI ln) (nI cn) (nI tn) ((ht_fold (nI ln) CR CS nd (ht_fs CR (nd * 24) 8) (ht_fs CS (nd * 24) 8) ((-1), bb, bt, bo) 21).1) ((ht_fold (nI ln) CR CS nd (ht_fs CR (nd * 24) 8) (ht_fs CS (nd * 24) 8) ((-1), bb, bt, bo) 21).2.1) ((ht_fold (nI ln) CR CS nd (ht_fs CR (nd * 24) 8) (ht_fs CS (nd * 24) 8) ((-1), bb, bt, bo) 21).2.2.1) ((ht_fold (nI ln) CR CS nd (ht_fs CR (nd * 24) 8) (ht_fs CS (nd * 24) 8) ((-1), bb, bt, bo) 21).2.2.2) F T (upd SF (t * 7 + nd) ((ht_fold (nI ln) CR CS nd (ht_fs CR (nd * 24) 8) (ht_fs CS (nd * 24) 8) ((-1), bb, bt, bo) 21).1)) (upd SB (t * 7 + nd) ((ht_fold (nI ln) CR CS nd (ht_fs CR (nd * 24) 8) (ht_fs CS (nd * 24) 8) ((-1), bb, bt, bo) 21).2.1)) (upd LV (t * 7 + nd) (nI 0)) (upd NR (t * 7 + nd) (ht_fs CR (nd * 24) 8)) RE ND CR CS) hx hb hK I 5 rfl (by omega) rfl dX1_splitNode_120 (fun H locs I => ?_)
        refine lv_iconst (v := nI 1) hx hb dX1_splitNode_121 (by decide) ?_
        exact ht_zret hx hb hr rfl hlk hK I (w2 := fun (u : ht_f3 × ht_f3 × ht_f3 × ht_B) => ht_X ad dA (nI ln) (nI cn) (nI tn) u.2.2.2.1 u.2.2.2.2.1 u.2.2.2.2.2.1 u.2.2.2.2.2.2 F T u.1 u.2.1 u.2.2.1 (upd NR (t * 7 + nd) (ht_fs CR (nd * 24) 8)) RE ND CR CS) (upd SF (t * 7 + nd) ((ht_fold (nI ln) CR CS nd (ht_fs CR (nd * 24) 8) (ht_fs CS (nd * 24) 8) ((-1), bb, bt, bo) 21).1), upd SB (t * 7 + nd) ((ht_fold (nI ln) CR CS nd (ht_fs CR (nd * 24) 8) (ht_fs CS (nd * 24) 8) ((-1), bb, bt, bo) 21).2.1), upd LV (t * 7 + nd) (nI 0), (ht_fold (nI ln) CR CS nd (ht_fs CR (nd * 24) 8) (ht_fs CS (nd * 24) 8) ((-1), bb, bt, bo) 21)) ⟨by unfold ht_sn; (try dsimp only); rw [if_neg c_4, if_pos c_5], by unfold ht_best; rw [if_pos (by omega)]⟩ rfl dX1_splitNode_122
      · have c_5 := fun q => c_5 ((lg_cmp_gt (((ht_fold (nI ln) CR CS nd (ht_fs CR (nd * 24) 8) (ht_fs CS (nd * 24) 8) ((-1), bb, bt, bo) 21).2.2.1) * ((ht_fs CR (nd * 24) 8).toInt64)) ((((ht_fs CS (nd * 24) 8).toInt64) * ((ht_fs CS (nd * 24) 8).toInt64)) * ((ht_fold (nI ln) CR CS nd (ht_fs CR (nd * 24) 8) (ht_fs CS (nd * 24) 8) ((-1), bb, bt, bo) 21).2.2.2))).mpr q)
        refine lv_aload_n hx hb dX1_splitNode_83 rfl (lv_at hl 4 rfl) ?_
        refine lv_iload_n hx hb dX1_splitNode_84 rfl (lv_at hl 3 rfl) ?_
        refine lv_iload hx hb dX1_splitNode_85 (lv_at hl 2 rfl) ?_
        refine lv_iload hx hb dX1_splitNode_87 (lv_at hl 1 rfl) ?_
        refine ht_callVv (As := [.int (nI (t * 7 + nd)), .int (ht_fs CR (nd * 24) 8), .int (ht_fs CS (nd * 24) 8)]) (rest := []) (wr := []) (q0 := 0) (ci := 0) hx hb hml hown hts hK hA I (xt_makeLeaf l D dA ad ln cn tn ((ht_fold (nI ln) CR CS nd (ht_fs CR (nd * 24) 8) (ht_fs CS (nd * 24) 8) ((-1), bb, bt, bo) 21).1) ((ht_fold (nI ln) CR CS nd (ht_fs CR (nd * 24) 8) (ht_fs CS (nd * 24) 8) ((-1), bb, bt, bo) 21).2.1) ((ht_fold (nI ln) CR CS nd (ht_fs CR (nd * 24) 8) (ht_fs CS (nd * 24) 8) ((-1), bb, bt, bo) 21).2.2.1) ((ht_fold (nI ln) CR CS nd (ht_fs CR (nd * 24) 8) (ht_fs CS (nd * 24) 8) ((-1), bb, bt, bo) 21).2.2.2) F T SF SB LV (upd NR (t * 7 + nd) (ht_fs CR (nd * 24) 8)) RE ND CR CS (t * 7 + nd) (ht_fs CR (nd * 24) 8) (ht_fs CS (nd * 24) 8) (by omega)) (cwV 3 hts (lw_V q152 q154 qs12 q26 q155) rfl rfl rfl (by decide +kernel) (by decide)) rfl rfl [0, 1, 2, 3, 4, 5, 6, 7, 8, 9, 10] [] rfl rfl (by decide) (by decide) (by decide) rfl hl.1 rfl (Nat.le_of_ble_eq_true rfl) dX1_splitNode_89 (by decide) (fun u H locs hp I => ?_)
        have I : ht_I D A s.heap (ht_X ad dA (nI ln) (nI cn) (nI tn) ((ht_fold (nI ln) CR CS nd (ht_fs CR (nd * 24) 8) (ht_fs CS (nd * 24) 8) ((-1), bb, bt, bo) 21).1) ((ht_fold (nI ln) CR CS nd (ht_fs CR (nd * 24) 8) (ht_fs CS (nd * 24) 8) ((-1), bb, bt, bo) 21).2.1) ((ht_fold (nI ln) CR CS nd (ht_fs CR (nd * 24) 8) (ht_fs CS (nd * 24) 8) ((-1), bb, bt, bo) 21).2.2.1) ((ht_fold (nI ln) CR CS nd (ht_fs CR (nd * 24) 8) (ht_fs CS (nd * 24) 8) ((-1), bb, bt, bo) 21).2.2.2) F T (upd SF (t * 7 + nd) (-6)) SB (upd LV (t * 7 + nd) (ht_dv (ht_fs CS (nd * 24) 8) (ht_fs CR (nd * 24) 8))) (upd NR (t * 7 + nd) (ht_fs CR (nd * 24) 8)) RE ND CR CS) H locs := I
        refine lv_iconst (v := nI 0) hx hb dX1_splitNode_92 (by decide) ?_
        exact ht_zret hx hb hr rfl hlk hK I (w2 := fun (u : ht_f3 × ht_f3 × ht_f3 × ht_B) => ht_X ad dA (nI ln) (nI cn) (nI tn) u.2.2.2.1 u.2.2.2.2.1 u.2.2.2.2.2.1 u.2.2.2.2.2.2 F T u.1 u.2.1 u.2.2.1 (upd NR (t * 7 + nd) (ht_fs CR (nd * 24) 8)) RE ND CR CS) (upd SF (t * 7 + nd) (-6), SB, upd LV (t * 7 + nd) (ht_dv (ht_fs CS (nd * 24) 8) (ht_fs CR (nd * 24) 8)), (ht_fold (nI ln) CR CS nd (ht_fs CR (nd * 24) 8) (ht_fs CS (nd * 24) 8) ((-1), bb, bt, bo) 21)) ⟨by unfold ht_sn; (try dsimp only); rw [if_neg c_4, if_neg c_5], by unfold ht_best; rw [if_pos (by omega)]⟩ rfl dX1_splitNode_93
set_option maxHeartbeats 4000000 in
set_option maxRecDepth 100000 in
theorem xt_part (t nd : Nat) (ht : t < 4) (hnd : nd < 3) (hcn : cn ≤ 24) : ht_MV l D dA yX1_part (ws_ yX1_part cX1_part 8 none) 3 67 [.ref (ad 0), .int (nI t), .int (nI nd)] (ht_X ad dA (nI ln) (nI cn) (nI tn) bf bb bt bo F T SF SB LV NR RE ND CR CS) (S := ht_f3 × ht_f3 × ht_f3) (fun (u : ht_f3 × ht_f3 × ht_f3) => ∃ sm lg : Nat, (sm = 2 * nd + 1 ∧ lg = 2 * nd + 2 ∨ sm = 2 * nd + 2 ∧ lg = 2 * nd + 1) ∧ u.1 = ht_send F ND (SF (t * 7 + nd)) (SB (t * 7 + nd)) nd cn ∧ u.2.1 = ht_fp (ht_fr CR F u.1 (fun _ => nI 1) sm cn) lg nd sm ∧ u.2.2 = ht_fp (ht_fr CS F u.1 RE sm cn) lg nd sm) (fun (u : ht_f3 × ht_f3 × ht_f3) => ht_X ad dA (nI ln) (nI cn) (nI tn) bf bb bt bo F T SF SB LV NR RE u.1 u.2.1 u.2.2) := by
  refine ht_MV_of (by decide) (Nat.le_of_ble_eq_true rfl) ?_
  intro p e s m below meth c A hx hb hr hlk hml hown hts hK hA I ls hl
  have hown : s.vm.findClass RX1 = some m.cls := hown
  have hl : lv_has ls 8 [(0, .ref (ad 0)), (1, .int (nI t)), (2, .int (nI nd))] := hl
  have loop : ∀ (n i lr : Nat), i + n = cn → lr ≤ i → ∀ (H : Heap) (locs : List Loc), ht_I D A s.heap (ht_X ad dA (nI ln) (nI cn) (nI tn) bf bb bt bo F T SF SB LV NR RE (ht_send F ND (SF (t * 7 + nd)) (SB (t * 7 + nd)) nd (i)) CR CS) H locs → ∀ ls : Array Slot, lv_has ls 8 [(6, .int (nI i)), (5, .int (nI lr)), (4, .int (nI (2 * nd + 1))), (3, .int (nI (t * 7 + nd))), (0, .ref (ad 0)), (1, .int (nI t)), (2, .int (nI nd))] → W p l e (ht_Rm 3 67) s m ([.ref (ad 0), .int (nI t), .int (nI nd)] : List Value).toArray below meth c H locs 0 0 (MQ below (va_Qv (fun (u : ht_f3 × ht_f3 × ht_f3) => ∃ sm lg : Nat, (sm = 2 * nd + 1 ∧ lg = 2 * nd + 2 ∨ sm = 2 * nd + 2 ∧ lg = 2 * nd + 1) ∧ u.1 = ht_send F ND (SF (t * 7 + nd)) (SB (t * 7 + nd)) nd cn ∧ u.2.1 = ht_fp (ht_fr CR F u.1 (fun _ => nI 1) sm cn) lg nd sm ∧ u.2.2 = ht_fp (ht_fr CS F u.1 RE sm cn) lg nd sm) (fun u t => ht_Po D dA A ((fun (u : ht_f3 × ht_f3 × ht_f3) => ht_X ad dA (nI ln) (nI cn) (nI tn) bf bb bt bo F T SF SB LV NR RE u.1 u.2.1 u.2.2) u) t) A) ([.ref (ad 0), .int (nI t), .int (nI nd)] : List Value).toArray s 0 0 A) (F0 m 20 ls []) := by
    intro n
    induction n with
    | zero =>
      intro i lr hi hlr H locs I ls hl
      refine lv_iload hx hb dX1_part_20 (lv_at hl 0 rfl) ?_
      refine lv_aload_n hx hb dX1_part_22 rfl (lv_at hl 4 rfl) ?_
      refine ht_getX hx hb hts hown hK I 1 (by decide) q37 rfl rfl dX1_part_23 ?_
      refine ht_ge (tgt := 106) hx hb dX1_part_26 (by decide) (by omega) (by omega) (fun c_1 => ?_) (fun c_1 => ?_)
      · obtain rfl : cn = i := by omega
        refine lv_iconst (v := nI 2) hx hb dX1_part_106 (by decide) ?_
        refine lv_iload hx hb dX1_part_107 (lv_at hl 1 rfl) ?_
        refine lv_imul hx hb dX1_part_109 ?_
        refine ht_ti (pk_mul 2 lr) ?_
        refine lv_aload_n hx hb dX1_part_110 rfl (lv_at hl 4 rfl) ?_
        refine ht_getX hx hb hts hown hK I 8 (by decide) q44 rfl rfl dX1_part_111 ?_
        refine lv_iload_n hx hb dX1_part_114 rfl (lv_at hl 3 rfl) ?_
        refine ht_ald hx hb hK I 6 rfl (by omega) dX1_part_115 ?_
        refine lv_icmp_gt (tgt := 124) hx hb dX1_part_116 (by decide) (fun c_2 => ?_) (fun c_2 => ?_)
        · refine lv_iload hx hb dX1_part_124 (lv_at hl 2 rfl) ?_
          refine lv_iconst (v := nI 1) hx hb dX1_part_126 (by decide) ?_
          refine lv_iadd hx hb dX1_part_127 ?_
          refine ht_ti (nI_add (2 * nd + 1) 1) ?_
          refine lv_istore (lv' := [(6, .int (nI (2 * nd + 1 + 1))), (5, .int (nI lr)), (4, .int (nI (2 * nd + 1))), (3, .int (nI (t * 7 + nd))), (0, .ref (ad 0)), (1, .int (nI t)), (2, .int (nI nd))]) hx hb dX1_part_128 hl (by decide) rfl (fun ls hl => ?_)
          refine lv_iload hx hb dX1_part_130 (lv_at hl 0 rfl) ?_
          refine lv_iload hx hb dX1_part_132 (lv_at hl 2 rfl) ?_
          refine ht_ne (tgt := 144) hx hb dX1_part_134 (by decide) (by omega) (by omega) (fun c_3 => ?_) (fun c_3 => ?_)
          · refine lv_iload hx hb dX1_part_144 (lv_at hl 2 rfl) ?_
            refine lv_istore (lv' := [(7, .int (nI (2 * nd + 1))), (6, .int (nI (2 * nd + 1 + 1))), (5, .int (nI lr)), (4, .int (nI (2 * nd + 1))), (3, .int (nI (t * 7 + nd))), (0, .ref (ad 0)), (1, .int (nI t)), (2, .int (nI nd))]) hx hb dX1_part_146 hl (by decide) rfl (fun ls hl => ?_)
            refine lv_aload_n hx hb dX1_part_148 rfl (lv_at hl 5 rfl) ?_
            refine lv_iload hx hb dX1_part_149 (lv_at hl 1 rfl) ?_
            refine ht_callVv (As := [.int (nI (2 * nd + 1 + 1))]) (rest := []) (wr := []) (q0 := 0) (ci := 0) hx hb hml hown hts hK hA I (xt_fromRows l D dA ad ln cn tn bf bb bt bo F T SF SB LV NR RE (ht_send F ND (SF (t * 7 + nd)) (SB (t * 7 + nd)) nd (cn)) CR CS (2 * nd + 1 + 1) (by omega) hcn) (cwV 1 hts (lw_V q116 q118 qs3 q26 q119) rfl rfl rfl (by decide +kernel) (by decide)) rfl rfl [0, 1, 2, 3, 4, 5, 6, 7, 8, 9, 10] [] rfl rfl (by decide) (by decide) (by decide) rfl hl.1 rfl (Nat.le_of_ble_eq_true rfl) dX1_part_151 (by decide) (fun u H locs hp I => ?_)
            have I : ht_I D A s.heap (ht_X ad dA (nI ln) (nI cn) (nI tn) bf bb bt bo F T SF SB LV NR RE (ht_send F ND (SF (t * 7 + nd)) (SB (t * 7 + nd)) nd (cn)) (ht_fr CR F (ht_send F ND (SF (t * 7 + nd)) (SB (t * 7 + nd)) nd (cn)) (fun _ => nI 1) (2 * nd + 1 + 1) cn) (ht_fr CS F (ht_send F ND (SF (t * 7 + nd)) (SB (t * 7 + nd)) nd (cn)) RE (2 * nd + 1 + 1) cn)) H locs := I
            refine lv_aload_n hx hb dX1_part_154 rfl (lv_at hl 5 rfl) ?_
            refine lv_iload hx hb dX1_part_155 (lv_at hl 0 rfl) ?_
            refine lv_iload_n hx hb dX1_part_157 rfl (lv_at hl 7 rfl) ?_
            refine lv_iload hx hb dX1_part_158 (lv_at hl 1 rfl) ?_
            refine ht_callVv (As := [.int (nI (2 * nd + 1)), .int (nI nd), .int (nI (2 * nd + 1 + 1))]) (rest := []) (wr := []) (q0 := 0) (ci := 0) hx hb hml hown hts hK hA I (xt_fromParent l D dA ad ln cn tn bf bb bt bo F T SF SB LV NR RE (ht_send F ND (SF (t * 7 + nd)) (SB (t * 7 + nd)) nd (cn)) (ht_fr CR F (ht_send F ND (SF (t * 7 + nd)) (SB (t * 7 + nd)) nd (cn)) (fun _ => nI 1) (2 * nd + 1 + 1) cn) (ht_fr CS F (ht_send F ND (SF (t * 7 + nd)) (SB (t * 7 + nd)) nd (cn)) RE (2 * nd + 1 + 1) cn) (2 * nd + 1) nd (2 * nd + 1 + 1) (by omega) (by omega) (by omega) (by omega) (by omega)) (cwV 3 hts (lw_V q160 q162 qs14 q26 q163) rfl rfl rfl (by decide +kernel) (by decide)) rfl rfl [0, 1, 2, 3, 4, 5, 6, 7, 8, 9, 10] [] rfl rfl (by decide) (by decide) (by decide) rfl hl.1 rfl (Nat.le_of_ble_eq_true rfl) dX1_part_160 (by decide) (fun u H locs hp I => ?_)
            have I : ht_I D A s.heap (ht_X ad dA (nI ln) (nI cn) (nI tn) bf bb bt bo F T SF SB LV NR RE (ht_send F ND (SF (t * 7 + nd)) (SB (t * 7 + nd)) nd (cn)) (ht_fp (ht_fr CR F (ht_send F ND (SF (t * 7 + nd)) (SB (t * 7 + nd)) nd (cn)) (fun _ => nI 1) (2 * nd + 1 + 1) cn) (2 * nd + 1) nd (2 * nd + 1 + 1)) (ht_fp (ht_fr CS F (ht_send F ND (SF (t * 7 + nd)) (SB (t * 7 + nd)) nd (cn)) RE (2 * nd + 1 + 1) cn) (2 * nd + 1) nd (2 * nd + 1 + 1))) H locs := I
            exact ht_vret hx hb hr hlk hK I (w2 := fun (u : ht_f3 × ht_f3 × ht_f3) => ht_X ad dA (nI ln) (nI cn) (nI tn) bf bb bt bo F T SF SB LV NR RE u.1 u.2.1 u.2.2) ((ht_send F ND (SF (t * 7 + nd)) (SB (t * 7 + nd)) nd (cn)), (ht_fp (ht_fr CR F (ht_send F ND (SF (t * 7 + nd)) (SB (t * 7 + nd)) nd (cn)) (fun _ => nI 1) (2 * nd + 1 + 1) cn) (2 * nd + 1) nd (2 * nd + 1 + 1)), (ht_fp (ht_fr CS F (ht_send F ND (SF (t * 7 + nd)) (SB (t * 7 + nd)) nd (cn)) RE (2 * nd + 1 + 1) cn) (2 * nd + 1) nd (2 * nd + 1 + 1))) ⟨2 * nd + 1 + 1, 2 * nd + 1, by omega, rfl, rfl, rfl⟩ rfl dX1_part_163
          · exact absurd c_3 (by omega)
        · refine lv_iload hx hb dX1_part_119 (lv_at hl 2 rfl) ?_
          refine lv_goto (tgt := 128) hx hb dX1_part_121 (by decide) ?_
          refine lv_istore (lv' := [(6, .int (nI (2 * nd + 1))), (5, .int (nI lr)), (4, .int (nI (2 * nd + 1))), (3, .int (nI (t * 7 + nd))), (0, .ref (ad 0)), (1, .int (nI t)), (2, .int (nI nd))]) hx hb dX1_part_128 hl (by decide) rfl (fun ls hl => ?_)
          refine lv_iload hx hb dX1_part_130 (lv_at hl 0 rfl) ?_
          refine lv_iload hx hb dX1_part_132 (lv_at hl 2 rfl) ?_
          refine ht_ne (tgt := 144) hx hb dX1_part_134 (by decide) (by omega) (by omega) (fun c_4 => ?_) (fun c_4 => ?_)
          · exact absurd rfl c_4
          · refine lv_iload hx hb dX1_part_137 (lv_at hl 2 rfl) ?_
            refine lv_iconst (v := nI 1) hx hb dX1_part_139 (by decide) ?_
            refine lv_iadd hx hb dX1_part_140 ?_
            refine ht_ti (nI_add (2 * nd + 1) 1) ?_
            refine lv_goto (tgt := 146) hx hb dX1_part_141 (by decide) ?_
            refine lv_istore (lv' := [(7, .int (nI (2 * nd + 1 + 1))), (6, .int (nI (2 * nd + 1))), (5, .int (nI lr)), (4, .int (nI (2 * nd + 1))), (3, .int (nI (t * 7 + nd))), (0, .ref (ad 0)), (1, .int (nI t)), (2, .int (nI nd))]) hx hb dX1_part_146 hl (by decide) rfl (fun ls hl => ?_)
            refine lv_aload_n hx hb dX1_part_148 rfl (lv_at hl 5 rfl) ?_
            refine lv_iload hx hb dX1_part_149 (lv_at hl 1 rfl) ?_
            refine ht_callVv (As := [.int (nI (2 * nd + 1))]) (rest := []) (wr := []) (q0 := 0) (ci := 0) hx hb hml hown hts hK hA I (xt_fromRows l D dA ad ln cn tn bf bb bt bo F T SF SB LV NR RE (ht_send F ND (SF (t * 7 + nd)) (SB (t * 7 + nd)) nd (cn)) CR CS (2 * nd + 1) (by omega) hcn) (cwV 1 hts (lw_V q116 q118 qs3 q26 q119) rfl rfl rfl (by decide +kernel) (by decide)) rfl rfl [0, 1, 2, 3, 4, 5, 6, 7, 8, 9, 10] [] rfl rfl (by decide) (by decide) (by decide) rfl hl.1 rfl (Nat.le_of_ble_eq_true rfl) dX1_part_151 (by decide) (fun u H locs hp I => ?_)
            have I : ht_I D A s.heap (ht_X ad dA (nI ln) (nI cn) (nI tn) bf bb bt bo F T SF SB LV NR RE (ht_send F ND (SF (t * 7 + nd)) (SB (t * 7 + nd)) nd (cn)) (ht_fr CR F (ht_send F ND (SF (t * 7 + nd)) (SB (t * 7 + nd)) nd (cn)) (fun _ => nI 1) (2 * nd + 1) cn) (ht_fr CS F (ht_send F ND (SF (t * 7 + nd)) (SB (t * 7 + nd)) nd (cn)) RE (2 * nd + 1) cn)) H locs := I
            refine lv_aload_n hx hb dX1_part_154 rfl (lv_at hl 5 rfl) ?_
            refine lv_iload hx hb dX1_part_155 (lv_at hl 0 rfl) ?_
            refine lv_iload_n hx hb dX1_part_157 rfl (lv_at hl 7 rfl) ?_
            refine lv_iload hx hb dX1_part_158 (lv_at hl 1 rfl) ?_
            refine ht_callVv (As := [.int (nI (2 * nd + 1 + 1)), .int (nI nd), .int (nI (2 * nd + 1))]) (rest := []) (wr := []) (q0 := 0) (ci := 0) hx hb hml hown hts hK hA I (xt_fromParent l D dA ad ln cn tn bf bb bt bo F T SF SB LV NR RE (ht_send F ND (SF (t * 7 + nd)) (SB (t * 7 + nd)) nd (cn)) (ht_fr CR F (ht_send F ND (SF (t * 7 + nd)) (SB (t * 7 + nd)) nd (cn)) (fun _ => nI 1) (2 * nd + 1) cn) (ht_fr CS F (ht_send F ND (SF (t * 7 + nd)) (SB (t * 7 + nd)) nd (cn)) RE (2 * nd + 1) cn) (2 * nd + 1 + 1) nd (2 * nd + 1) (by omega) (by omega) (by omega) (by omega) (by omega)) (cwV 3 hts (lw_V q160 q162 qs14 q26 q163) rfl rfl rfl (by decide +kernel) (by decide)) rfl rfl [0, 1, 2, 3, 4, 5, 6, 7, 8, 9, 10] [] rfl rfl (by decide) (by decide) (by decide) rfl hl.1 rfl (Nat.le_of_ble_eq_true rfl) dX1_part_160 (by decide) (fun u H locs hp I => ?_)
            have I : ht_I D A s.heap (ht_X ad dA (nI ln) (nI cn) (nI tn) bf bb bt bo F T SF SB LV NR RE (ht_send F ND (SF (t * 7 + nd)) (SB (t * 7 + nd)) nd (cn)) (ht_fp (ht_fr CR F (ht_send F ND (SF (t * 7 + nd)) (SB (t * 7 + nd)) nd (cn)) (fun _ => nI 1) (2 * nd + 1) cn) (2 * nd + 1 + 1) nd (2 * nd + 1)) (ht_fp (ht_fr CS F (ht_send F ND (SF (t * 7 + nd)) (SB (t * 7 + nd)) nd (cn)) RE (2 * nd + 1) cn) (2 * nd + 1 + 1) nd (2 * nd + 1))) H locs := I
            exact ht_vret hx hb hr hlk hK I (w2 := fun (u : ht_f3 × ht_f3 × ht_f3) => ht_X ad dA (nI ln) (nI cn) (nI tn) bf bb bt bo F T SF SB LV NR RE u.1 u.2.1 u.2.2) ((ht_send F ND (SF (t * 7 + nd)) (SB (t * 7 + nd)) nd (cn)), (ht_fp (ht_fr CR F (ht_send F ND (SF (t * 7 + nd)) (SB (t * 7 + nd)) nd (cn)) (fun _ => nI 1) (2 * nd + 1) cn) (2 * nd + 1 + 1) nd (2 * nd + 1)), (ht_fp (ht_fr CS F (ht_send F ND (SF (t * 7 + nd)) (SB (t * 7 + nd)) nd (cn)) RE (2 * nd + 1) cn) (2 * nd + 1 + 1) nd (2 * nd + 1))) ⟨2 * nd + 1, 2 * nd + 1 + 1, by omega, rfl, rfl, rfl⟩ rfl dX1_part_163
      · exact absurd c_1 (by omega)
    | succ n ih =>
      intro i lr hi hlr H locs I ls hl
      refine lv_iload hx hb dX1_part_20 (lv_at hl 0 rfl) ?_
      refine lv_aload_n hx hb dX1_part_22 rfl (lv_at hl 4 rfl) ?_
      refine ht_getX hx hb hts hown hK I 1 (by decide) q37 rfl rfl dX1_part_23 ?_
      refine ht_ge (tgt := 106) hx hb dX1_part_26 (by decide) (by omega) (by omega) (fun c_5 => ?_) (fun c_5 => ?_)
      · exact absurd c_5 (by omega)
      · refine lv_aload_n hx hb dX1_part_29 rfl (lv_at hl 4 rfl) ?_
        refine ht_getX hx hb hts hown hK I 10 (by decide) q46 rfl rfl dX1_part_30 ?_
        refine lv_iload hx hb dX1_part_33 (lv_at hl 0 rfl) ?_
        refine ht_ald hx hb hK I 8 rfl (by omega) dX1_part_35 ?_
        refine ht_ti ht_send_at ?_
        refine lv_iload_n hx hb dX1_part_36 rfl (lv_at hl 6 rfl) ?_
        refine lv_icmp_ne (tgt := 100) hx hb dX1_part_37 (by decide) (fun c_6 => ?_) (fun c_6 => ?_)
        · refine lv_iinc (v := (nI (i + 1))) (lv' := [(6, .int (nI (i + 1))), (5, .int (nI lr)), (4, .int (nI (2 * nd + 1))), (3, .int (nI (t * 7 + nd))), (0, .ref (ad 0)), (1, .int (nI t)), (2, .int (nI nd))]) hx hb dX1_part_100 hl (k := 0) rfl (nI_add i 1) (by decide) rfl (fun ls hl => ?_)
          refine lv_goto (tgt := 20) hx hb dX1_part_103 (by decide) ?_
          rw [← ht_send_k c_6] at I
          exact ih (i + 1) lr (by omega) (by omega) _ _ I ls (lv_sub hl [0, 1, 2, 3, 4, 5, 6] rfl)
        · refine lv_aload_n hx hb dX1_part_40 rfl (lv_at hl 4 rfl) ?_
          refine ht_getX hx hb hts hown hK I 2 (by decide) q38 rfl rfl dX1_part_41 ?_
          refine lv_iload hx hb dX1_part_44 (lv_at hl 0 rfl) ?_
          refine ht_ald hx hb hK I 1 rfl (by omega) dX1_part_46 ?_
          refine lv_aload_n hx hb dX1_part_47 rfl (lv_at hl 4 rfl) ?_
          refine ht_getX hx hb hts hown hK I 5 (by decide) q41 rfl rfl dX1_part_48 ?_
          refine lv_iload_n hx hb dX1_part_51 rfl (lv_at hl 3 rfl) ?_
          refine ht_ald hx hb hK I 3 rfl (by omega) dX1_part_52 ?_
          refine ht_callSi (As := [.int (F i), .int (SF (t * 7 + nd))]) (rest := []) (wr := ht_X ad dA (nI ln) (nI cn) (nI tn) bf bb bt bo F T SF SB LV NR RE (ht_send F ND (SF (t * 7 + nd)) (SB (t * 7 + nd)) nd (i)) CR CS) hx hb hml hown hts hK hA I (xt_featureOf l D dA (F i) (SF (t * 7 + nd))) (va_cwS 2 hts (lw_S q113 q114 q26 q115) rfl rfl rfl (by decide +kernel) (by decide)) [0, 1, 2, 3, 4, 5, 6, 7, 8, 9, 10] rfl (by decide) rfl hl.1 rfl (Nat.le_of_ble_eq_true rfl) dX1_part_53 (by decide) (fun r u H locs hp I => ?_)
          subst hp
          have I : ht_I D A s.heap (ht_X ad dA (nI ln) (nI cn) (nI tn) bf bb bt bo F T SF SB LV NR RE (ht_send F ND (SF (t * 7 + nd)) (SB (t * 7 + nd)) nd (i)) CR CS) H locs := I
          refine lv_istore (lv' := [(7, .int (ht_cl (F i) (SF (t * 7 + nd)))), (6, .int (nI i)), (5, .int (nI lr)), (4, .int (nI (2 * nd + 1))), (3, .int (nI (t * 7 + nd))), (0, .ref (ad 0)), (1, .int (nI t)), (2, .int (nI nd))]) hx hb dX1_part_56 hl (by decide) rfl (fun ls hl => ?_)
          refine lv_aload_n hx hb dX1_part_58 rfl (lv_at hl 5 rfl) ?_
          refine ht_getX hx hb hts hown hK I 10 (by decide) q46 rfl rfl dX1_part_59 ?_
          refine lv_iload hx hb dX1_part_62 (lv_at hl 1 rfl) ?_
          refine lv_iload hx hb dX1_part_64 (lv_at hl 0 rfl) ?_
          refine lv_aload_n hx hb dX1_part_66 rfl (lv_at hl 5 rfl) ?_
          refine ht_getX hx hb hts hown hK I 6 (by decide) q42 rfl rfl dX1_part_67 ?_
          refine lv_iload_n hx hb dX1_part_70 rfl (lv_at hl 4 rfl) ?_
          refine ht_ald hx hb hK I 4 rfl (by omega) dX1_part_71 ?_
          refine lv_icmp_gt (tgt := 80) hx hb dX1_part_72 (by decide) (fun c_7 => ?_) (fun c_7 => ?_)
          · refine lv_iload hx hb dX1_part_80 (lv_at hl 3 rfl) ?_
            refine lv_iconst (v := nI 1) hx hb dX1_part_82 (by decide) ?_
            refine lv_iadd hx hb dX1_part_83 ?_
            refine ht_ti (nI_add (2 * nd + 1) 1) ?_
            refine ht_ast (w3 := ht_X ad dA (nI ln) (nI cn) (nI tn) bf bb bt bo F T SF SB LV NR RE (upd (ht_send F ND (SF (t * 7 + nd)) (SB (t * 7 + nd)) nd (i)) i (nI (2 * nd + 1 + 1))) CR CS) hx hb hK I 8 rfl (by omega) rfl dX1_part_84 (fun H locs I => ?_)
            refine lv_aload_n hx hb dX1_part_85 rfl (lv_at hl 5 rfl) ?_
            refine ht_getX hx hb hts hown hK I 10 (by decide) q46 rfl rfl dX1_part_86 ?_
            refine lv_iload hx hb dX1_part_89 (lv_at hl 1 rfl) ?_
            refine ht_ald hx hb hK I 8 rfl (by omega) dX1_part_91 ?_
            refine ht_ti pk_us ?_
            have I := I.to (w3 := ht_X ad dA (nI ln) (nI cn) (nI tn) bf bb bt bo F T SF SB LV NR RE (ht_send F ND (SF (t * 7 + nd)) (SB (t * 7 + nd)) nd (i + 1)) CR CS) (by rw [ht_send_s c_6 (by rw [if_pos c_7])])
            refine lv_iload hx hb dX1_part_92 (lv_at hl 3 rfl) ?_
            refine ht_ne (tgt := 100) hx hb dX1_part_94 (by decide) (by omega) (by omega) (fun c_8 => ?_) (fun c_8 => ?_)
            · refine lv_iinc (v := (nI (i + 1))) (lv' := [(6, .int (nI (i + 1))), (7, .int (ht_cl (F i) (SF (t * 7 + nd)))), (5, .int (nI lr)), (4, .int (nI (2 * nd + 1))), (3, .int (nI (t * 7 + nd))), (0, .ref (ad 0)), (1, .int (nI t)), (2, .int (nI nd))]) hx hb dX1_part_100 hl (k := 1) rfl (nI_add i 1) (by decide) rfl (fun ls hl => ?_)
              refine lv_goto (tgt := 20) hx hb dX1_part_103 (by decide) ?_
              exact ih (i + 1) lr (by omega) (by omega) _ _ I ls (lv_sub hl [0, 2, 3, 4, 5, 6, 7] rfl)
            · exact absurd c_8 (by omega)
          · refine lv_iload hx hb dX1_part_75 (lv_at hl 3 rfl) ?_
            refine lv_goto (tgt := 84) hx hb dX1_part_77 (by decide) ?_
            refine ht_ast (w3 := ht_X ad dA (nI ln) (nI cn) (nI tn) bf bb bt bo F T SF SB LV NR RE (upd (ht_send F ND (SF (t * 7 + nd)) (SB (t * 7 + nd)) nd (i)) i (nI (2 * nd + 1))) CR CS) hx hb hK I 8 rfl (by omega) rfl dX1_part_84 (fun H locs I => ?_)
            refine lv_aload_n hx hb dX1_part_85 rfl (lv_at hl 5 rfl) ?_
            refine ht_getX hx hb hts hown hK I 10 (by decide) q46 rfl rfl dX1_part_86 ?_
            refine lv_iload hx hb dX1_part_89 (lv_at hl 1 rfl) ?_
            refine ht_ald hx hb hK I 8 rfl (by omega) dX1_part_91 ?_
            refine ht_ti pk_us ?_
            have I := I.to (w3 := ht_X ad dA (nI ln) (nI cn) (nI tn) bf bb bt bo F T SF SB LV NR RE (ht_send F ND (SF (t * 7 + nd)) (SB (t * 7 + nd)) nd (i + 1)) CR CS) (by rw [ht_send_s c_6 (by rw [if_neg c_7])])
            refine lv_iload hx hb dX1_part_92 (lv_at hl 3 rfl) ?_
            refine ht_ne (tgt := 100) hx hb dX1_part_94 (by decide) (by omega) (by omega) (fun c_9 => ?_) (fun c_9 => ?_)
            · exact absurd rfl c_9
            · refine lv_iinc (v := (nI (lr + 1))) (lv' := [(5, .int (nI (lr + 1))), (7, .int (ht_cl (F i) (SF (t * 7 + nd)))), (6, .int (nI i)), (4, .int (nI (2 * nd + 1))), (3, .int (nI (t * 7 + nd))), (0, .ref (ad 0)), (1, .int (nI t)), (2, .int (nI nd))]) hx hb dX1_part_97 hl (k := 2) rfl (nI_add lr 1) (by decide) rfl (fun ls hl => ?_)
              refine lv_iinc (v := (nI (i + 1))) (lv' := [(6, .int (nI (i + 1))), (5, .int (nI (lr + 1))), (7, .int (ht_cl (F i) (SF (t * 7 + nd)))), (4, .int (nI (2 * nd + 1))), (3, .int (nI (t * 7 + nd))), (0, .ref (ad 0)), (1, .int (nI t)), (2, .int (nI nd))]) hx hb dX1_part_100 hl (k := 2) rfl (nI_add i 1) (by decide) rfl (fun ls hl => ?_)
              refine lv_goto (tgt := 20) hx hb dX1_part_103 (by decide) ?_
              exact ih (i + 1) (lr + 1) (by omega) (by omega) _ _ I ls (lv_sub hl [0, 1, 3, 4, 5, 6, 7] rfl)
  refine lv_iload_n hx hb dX1_part_0 rfl (lv_at hl 1 rfl) ?_
  refine lv_bipush (v := nI 7) hx hb dX1_part_1 (by decide) ?_
  refine lv_imul hx hb dX1_part_3 ?_
  refine ht_ti (pk_mul t 7) ?_
  refine lv_iload_n hx hb dX1_part_4 rfl (lv_at hl 2 rfl) ?_
  refine lv_iadd hx hb dX1_part_5 ?_
  refine ht_ti (nI_add (t * 7) nd) ?_
  refine lv_istore_n (lv' := [(3, .int (nI (t * 7 + nd))), (0, .ref (ad 0)), (1, .int (nI t)), (2, .int (nI nd))]) hx hb dX1_part_6 rfl hl (by decide) rfl (fun ls hl => ?_)
  refine lv_iconst (v := nI 2) hx hb dX1_part_7 (by decide) ?_
  refine lv_iload_n hx hb dX1_part_8 rfl (lv_at hl 3 rfl) ?_
  refine lv_imul hx hb dX1_part_9 ?_
  refine ht_ti (pk_mul 2 nd) ?_
  refine lv_iconst (v := nI 1) hx hb dX1_part_10 (by decide) ?_
  refine lv_iadd hx hb dX1_part_11 ?_
  refine ht_ti (nI_add (2 * nd) 1) ?_
  refine lv_istore (lv' := [(4, .int (nI (2 * nd + 1))), (3, .int (nI (t * 7 + nd))), (0, .ref (ad 0)), (1, .int (nI t)), (2, .int (nI nd))]) hx hb dX1_part_12 hl (by decide) rfl (fun ls hl => ?_)
  refine lv_iconst (v := nI 0) hx hb dX1_part_14 (by decide) ?_
  refine lv_istore (lv' := [(5, .int (nI 0)), (4, .int (nI (2 * nd + 1))), (3, .int (nI (t * 7 + nd))), (0, .ref (ad 0)), (1, .int (nI t)), (2, .int (nI nd))]) hx hb dX1_part_15 hl (by decide) rfl (fun ls hl => ?_)
  refine lv_iconst (v := nI 0) hx hb dX1_part_17 (by decide) ?_
  refine lv_istore (lv' := [(6, .int (nI 0)), (5, .int (nI 0)), (4, .int (nI (2 * nd + 1))), (3, .int (nI (t * 7 + nd))), (0, .ref (ad 0)), (1, .int (nI t)), (2, .int (nI nd))]) hx hb dX1_part_18 hl (by decide) rfl (fun ls hl => ?_)
  have I := I.to (w3 := ht_X ad dA (nI ln) (nI cn) (nI tn) bf bb bt bo F T SF SB LV NR RE (ht_send F ND (SF (t * 7 + nd)) (SB (t * 7 + nd)) nd (0)) CR CS) (by rw [ht_send_0])
  exact loop cn 0 0 (by omega) (by omega) _ _ I ls (lv_sub hl [0, 1, 2, 3, 4, 5, 6] rfl)
set_option maxHeartbeats 4000000 in
set_option maxRecDepth 100000 in
theorem xt_row (fe tg : Int32) (hcn : cn ≤ 24) : ht_MI l D dA yX1_row (ws_ yX1_row cX1_row 3 (some .int)) 0 0 [.ref (ad 0), .int fe, .int tg] (ht_X ad dA (nI ln) (nI cn) (nI tn) bf bb bt bo F T SF SB LV NR RE ND CR CS) (S := Nat × ht_f3 × ht_f3) (fun (r : Int32) (u : Nat × ht_f3 × ht_f3) => (r, u) = ht_row cn F T fe tg) (fun (u : Nat × ht_f3 × ht_f3) => ht_X ad dA (nI ln) (nI u.1) (nI tn) bf bb bt bo u.2.1 u.2.2 SF SB LV NR RE ND CR CS) := by
  refine ht_MI_of (by decide) (Nat.le_of_ble_eq_true rfl) ?_
  intro p e s m below meth c A hx hb hr hlk hml hown hts hK hA I ls hl
  have hown : s.vm.findClass RX1 = some m.cls := hown
  have hl : lv_has ls 3 [(0, .ref (ad 0)), (1, .int fe), (2, .int tg)] := hl
  refine lv_iload_n hx hb dX1_row_0 rfl (lv_at hl 2 rfl) ?_
  refine lv_bipush (v := (-50)) hx hb dX1_row_1 (by decide) ?_
  refine lv_icmp_lt (tgt := 12) hx hb dX1_row_3 (by decide) (fun c_1 => ?_) (fun c_1 => ?_)
  · refine lv_bipush (v := (-2)) hx hb dX1_row_12 (by decide) ?_
    exact ht_iret hx hb hr hlk hK I (w2 := fun (u : Nat × ht_f3 × ht_f3) => ht_X ad dA (nI ln) (nI u.1) (nI tn) bf bb bt bo u.2.1 u.2.2 SF SB LV NR RE ND CR CS) (cn, F, T) (by unfold ht_row; rw [if_pos c_1]) rfl dX1_row_14
  · refine lv_iload_n hx hb dX1_row_6 rfl (lv_at hl 2 rfl) ?_
    refine lv_bipush (v := nI 50) hx hb dX1_row_7 (by decide) ?_
    refine lv_icmp_le (tgt := 15) hx hb dX1_row_9 (by decide) (fun c_2 => ?_) (fun c_2 => ?_)
    · refine lv_aload_n hx hb dX1_row_15 rfl (lv_at hl 0 rfl) ?_
      refine ht_getX hx hb hts hown hK I 1 (by decide) q37 rfl rfl dX1_row_16 ?_
      refine lv_bipush (v := nI 24) hx hb dX1_row_19 (by decide) ?_
      refine ht_lt (tgt := 27) hx hb dX1_row_21 (by decide) (by omega) (by omega) (fun c_3 => ?_) (fun c_3 => ?_)
      · refine lv_aload_n hx hb dX1_row_27 rfl (lv_at hl 0 rfl) ?_
        refine ht_getX hx hb hts hown hK I 2 (by decide) q38 rfl rfl dX1_row_28 ?_
        refine lv_aload_n hx hb dX1_row_31 rfl (lv_at hl 0 rfl) ?_
        refine ht_getX hx hb hts hown hK I 1 (by decide) q37 rfl rfl dX1_row_32 ?_
        refine lv_iload_n hx hb dX1_row_35 rfl (lv_at hl 1 rfl) ?_
        refine lv_sipush (v := nI 511) hx hb dX1_row_36 (by decide) ?_
        refine lv_iand hx hb dX1_row_39 ?_
        refine ht_ast (w3 := ht_X ad dA (nI ln) (nI cn) (nI tn) bf bb bt bo (upd F cn (fe &&& (nI 511))) T SF SB LV NR RE ND CR CS) hx hb hK I 1 rfl (by omega) rfl dX1_row_40 (fun H locs I => ?_)
        refine lv_aload_n hx hb dX1_row_41 rfl (lv_at hl 0 rfl) ?_
        refine ht_getX hx hb hts hown hK I 3 (by decide) q39 rfl rfl dX1_row_42 ?_
        refine lv_aload_n hx hb dX1_row_45 rfl (lv_at hl 0 rfl) ?_
        refine ht_getX hx hb hts hown hK I 1 (by decide) q37 rfl rfl dX1_row_46 ?_
        refine lv_iload_n hx hb dX1_row_49 rfl (lv_at hl 2 rfl) ?_
        refine ht_ast (w3 := ht_X ad dA (nI ln) (nI cn) (nI tn) bf bb bt bo (upd F cn (fe &&& (nI 511))) (upd T cn tg) SF SB LV NR RE ND CR CS) hx hb hK I 2 rfl (by omega) rfl dX1_row_50 (fun H locs I => ?_)
        refine lv_aload_n hx hb dX1_row_51 rfl (lv_at hl 0 rfl) ?_
        refine lv_dup hx hb dX1_row_52 rfl ?_
        refine ht_getX hx hb hts hown hK I 1 (by decide) q37 rfl rfl dX1_row_53 ?_
        refine lv_iconst (v := nI 1) hx hb dX1_row_56 (by decide) ?_
        refine lv_iadd hx hb dX1_row_57 ?_
        refine ht_ti (nI_add cn 1) ?_
        refine ht_putX (ty := .int) (w3 := ht_X ad dA (nI ln) (nI (cn + 1)) (nI tn) bf bb bt bo (upd F cn (fe &&& (nI 511))) (upd T cn tg) SF SB LV NR RE ND CR CS) hx hb hts hown hK I 1 (by decide) q37 rfl (by decide +kernel) rfl rfl rfl (Nat.le_of_ble_eq_true rfl) rfl dX1_row_58 (fun H locs I => ?_)
        refine lv_aload_n hx hb dX1_row_61 rfl (lv_at hl 0 rfl) ?_
        refine ht_getX hx hb hts hown hK I 1 (by decide) q37 rfl rfl dX1_row_62 ?_
        exact ht_iret hx hb hr hlk hK I (w2 := fun (u : Nat × ht_f3 × ht_f3) => ht_X ad dA (nI ln) (nI u.1) (nI tn) bf bb bt bo u.2.1 u.2.2 SF SB LV NR RE ND CR CS) ((cn + 1), (upd F cn (fe &&& (nI 511))), (upd T cn tg)) (by unfold ht_row; rw [if_neg c_1, if_pos c_2, if_pos c_3]) rfl dX1_row_65
      · refine lv_bipush (v := (-3)) hx hb dX1_row_24 (by decide) ?_
        exact ht_iret hx hb hr hlk hK I (w2 := fun (u : Nat × ht_f3 × ht_f3) => ht_X ad dA (nI ln) (nI u.1) (nI tn) bf bb bt bo u.2.1 u.2.2 SF SB LV NR RE ND CR CS) (cn, F, T) (by unfold ht_row; rw [if_neg c_1, if_pos c_2, if_neg (by omega)]) rfl dX1_row_26
    · refine lv_bipush (v := (-2)) hx hb dX1_row_12 (by decide) ?_
      exact ht_iret hx hb hr hlk hK I (w2 := fun (u : Nat × ht_f3 × ht_f3) => ht_X ad dA (nI ln) (nI u.1) (nI tn) bf bb bt bo u.2.1 u.2.2 SF SB LV NR RE ND CR CS) (cn, F, T) (by unfold ht_row; rw [if_neg c_1, if_neg c_2]) rfl dX1_row_14
set_option maxHeartbeats 4000000 in
set_option maxRecDepth 100000 in
theorem xt_retarget (i tg : Int32) (hcn : cn ≤ 24) : ht_MI l D dA yX1_retarget (ws_ yX1_retarget cX1_retarget 4 (some .int)) 0 0 [.ref (ad 0), .int i, .int tg] (ht_X ad dA (nI ln) (nI cn) (nI tn) bf bb bt bo F T SF SB LV NR RE ND CR CS) (S := ht_f3) (fun (r : Int32) (u : ht_f3) => (r, u) = ht_retarget cn T i tg) (fun (u : ht_f3) => ht_X ad dA (nI ln) (nI cn) (nI tn) bf bb bt bo F u SF SB LV NR RE ND CR CS) := by
  refine ht_MI_of (by decide) (Nat.le_of_ble_eq_true rfl) ?_
  intro p e s m below meth c A hx hb hr hlk hml hown hts hK hA I ls hl
  have hown : s.vm.findClass RX1 = some m.cls := hown
  have hl : lv_has ls 4 [(0, .ref (ad 0)), (1, .int i), (2, .int tg)] := hl
  refine lv_iload_n hx hb dX1_retarget_0 rfl (lv_at hl 1 rfl) ?_
  refine lv_if_lt (tgt := 12) hx hb dX1_retarget_1 (by decide) (fun c_1 => ?_) (fun c_1 => ?_)
  · refine lv_bipush (v := (-5)) hx hb dX1_retarget_12 (by decide) ?_
    exact ht_iret hx hb hr hlk hK I (w2 := fun (u : ht_f3) => ht_X ad dA (nI ln) (nI cn) (nI tn) bf bb bt bo F u SF SB LV NR RE ND CR CS) T (by unfold ht_retarget; rw [if_pos c_1]) rfl dX1_retarget_14
  · refine lv_iload_n hx hb dX1_retarget_4 rfl (lv_at hl 1 rfl) ?_
    refine lv_aload_n hx hb dX1_retarget_5 rfl (lv_at hl 0 rfl) ?_
    refine ht_getX hx hb hts hown hK I 1 (by decide) q37 rfl rfl dX1_retarget_6 ?_
    refine lv_icmp_lt (tgt := 15) hx hb dX1_retarget_9 (by decide) (fun c_2 => ?_) (fun c_2 => ?_)
    · refine lv_iload_n hx hb dX1_retarget_15 rfl (lv_at hl 2 rfl) ?_
      refine lv_bipush (v := (-50)) hx hb dX1_retarget_16 (by decide) ?_
      refine lv_icmp_lt (tgt := 27) hx hb dX1_retarget_18 (by decide) (fun c_3 => ?_) (fun c_3 => ?_)
      · refine lv_bipush (v := (-2)) hx hb dX1_retarget_27 (by decide) ?_
        exact ht_iret hx hb hr hlk hK I (w2 := fun (u : ht_f3) => ht_X ad dA (nI ln) (nI cn) (nI tn) bf bb bt bo F u SF SB LV NR RE ND CR CS) T (by unfold ht_retarget; rw [if_neg c_1, if_pos c_2, if_pos c_3]) rfl dX1_retarget_29
      · refine lv_iload_n hx hb dX1_retarget_21 rfl (lv_at hl 2 rfl) ?_
        refine lv_bipush (v := nI 50) hx hb dX1_retarget_22 (by decide) ?_
        refine lv_icmp_le (tgt := 30) hx hb dX1_retarget_24 (by decide) (fun c_4 => ?_) (fun c_4 => ?_)
        · obtain ⟨j, hj, rfl⟩ := ht_idx c_1 c_2 (by omega)
          refine lv_aload_n hx hb dX1_retarget_30 rfl (lv_at hl 0 rfl) ?_
          refine ht_getX hx hb hts hown hK I 3 (by decide) q39 rfl rfl dX1_retarget_31 ?_
          refine lv_iload_n hx hb dX1_retarget_34 rfl (lv_at hl 1 rfl) ?_
          refine ht_ald hx hb hK I 2 rfl (by omega) dX1_retarget_35 ?_
          refine lv_istore_n (lv' := [(3, .int (T j)), (0, .ref (ad 0)), (1, .int (nI j)), (2, .int tg)]) hx hb dX1_retarget_36 rfl hl (by decide) rfl (fun ls hl => ?_)
          refine lv_aload_n hx hb dX1_retarget_37 rfl (lv_at hl 1 rfl) ?_
          refine ht_getX hx hb hts hown hK I 3 (by decide) q39 rfl rfl dX1_retarget_38 ?_
          refine lv_iload_n hx hb dX1_retarget_41 rfl (lv_at hl 2 rfl) ?_
          refine lv_iload_n hx hb dX1_retarget_42 rfl (lv_at hl 3 rfl) ?_
          refine ht_ast (w3 := ht_X ad dA (nI ln) (nI cn) (nI tn) bf bb bt bo F (upd T j tg) SF SB LV NR RE ND CR CS) hx hb hK I 2 rfl (by omega) rfl dX1_retarget_43 (fun H locs I => ?_)
          refine lv_iload_n hx hb dX1_retarget_44 rfl (lv_at hl 0 rfl) ?_
          exact ht_iret hx hb hr hlk hK I (w2 := fun (u : ht_f3) => ht_X ad dA (nI ln) (nI cn) (nI tn) bf bb bt bo F u SF SB LV NR RE ND CR CS) (upd T j tg) (by unfold ht_retarget; rw [if_neg c_1, if_pos c_2, if_neg c_3, if_pos c_4, nI_clamp (by omega)]) rfl dX1_retarget_45
        · refine lv_bipush (v := (-2)) hx hb dX1_retarget_27 (by decide) ?_
          exact ht_iret hx hb hr hlk hK I (w2 := fun (u : ht_f3) => ht_X ad dA (nI ln) (nI cn) (nI tn) bf bb bt bo F u SF SB LV NR RE ND CR CS) T (by unfold ht_retarget; rw [if_neg c_1, if_pos c_2, if_neg c_3, if_neg c_4]) rfl dX1_retarget_29
    · refine lv_bipush (v := (-5)) hx hb dX1_retarget_12 (by decide) ?_
      exact ht_iret hx hb hr hlk hK I (w2 := fun (u : ht_f3) => ht_X ad dA (nI ln) (nI cn) (nI tn) bf bb bt bo F u SF SB LV NR RE ND CR CS) T (by unfold ht_retarget; rw [if_neg c_1, if_neg c_2]) rfl dX1_retarget_14
set_option maxHeartbeats 4000000 in
set_option maxRecDepth 100000 in
theorem xt_dropTree (htn : tn ≤ 4) : ht_MI l D dA yX1_dropTree (ws_ yX1_dropTree cX1_dropTree 1 (some .int)) 0 0 [.ref (ad 0)] (ht_X ad dA (nI ln) (nI cn) (nI tn) bf bb bt bo F T SF SB LV NR RE ND CR CS) (S := Nat) (fun (r : Int32) (u : Nat) => (r, u) = ht_drop tn) (fun (u : Nat) => ht_X ad dA (nI ln) (nI cn) (nI u) bf bb bt bo F T SF SB LV NR RE ND CR CS) := by
  refine ht_MI_of (by decide) (Nat.le_of_ble_eq_true rfl) ?_
  intro p e s m below meth c A hx hb hr hlk hml hown hts hK hA I ls hl
  have hown : s.vm.findClass RX1 = some m.cls := hown
  have hl : lv_has ls 1 [(0, .ref (ad 0))] := hl
  refine lv_aload_n hx hb dX1_dropTree_0 rfl (lv_at hl 0 rfl) ?_
  refine ht_getX hx hb hts hown hK I 4 (by decide) q40 rfl rfl dX1_dropTree_1 ?_
  refine lv_if_ne (tgt := 10) hx hb dX1_dropTree_4 (by decide) (fun c_1 => ?_) (fun c_1 => ?_)
  · have h0 : tn ≠ 0 := fun q => c_1 (by rw [q]; rfl)
    refine lv_aload_n hx hb dX1_dropTree_10 rfl (lv_at hl 0 rfl) ?_
    refine lv_dup hx hb dX1_dropTree_11 rfl ?_
    refine ht_getX hx hb hts hown hK I 4 (by decide) q40 rfl rfl dX1_dropTree_12 ?_
    refine lv_iconst (v := nI 1) hx hb dX1_dropTree_15 (by decide) ?_
    refine lv_isub hx hb dX1_dropTree_16 ?_
    refine ht_ti (pk_sub (a := tn) (b := 1) (by omega)) ?_
    refine ht_putX (ty := .int) (w3 := ht_X ad dA (nI ln) (nI cn) (nI (tn - 1)) bf bb bt bo F T SF SB LV NR RE ND CR CS) hx hb hts hown hK I 4 (by decide) q40 rfl (by decide +kernel) rfl rfl rfl (Nat.le_of_ble_eq_true rfl) rfl dX1_dropTree_17 (fun H locs I => ?_)
    refine lv_aload_n hx hb dX1_dropTree_20 rfl (lv_at hl 0 rfl) ?_
    refine ht_getX hx hb hts hown hK I 4 (by decide) q40 rfl rfl dX1_dropTree_21 ?_
    exact ht_iret hx hb hr hlk hK I (w2 := fun (u : Nat) => ht_X ad dA (nI ln) (nI cn) (nI u) bf bb bt bo F T SF SB LV NR RE ND CR CS) (tn - 1) (by unfold ht_drop; rw [if_neg h0]) rfl dX1_dropTree_24
  · have h0 : tn = 0 := Decidable.byContradiction (fun q => nI_ne0 (by omega) (by omega) c_1)
    refine lv_bipush (v := (-7)) hx hb dX1_dropTree_7 (by decide) ?_
    exact ht_iret hx hb hr hlk hK I (w2 := fun (u : Nat) => ht_X ad dA (nI ln) (nI cn) (nI u) bf bb bt bo F T SF SB LV NR RE ND CR CS) tn (by unfold ht_drop; rw [if_pos h0, h0]) rfl dX1_dropTree_9
set_option maxHeartbeats 4000000 in
set_option maxRecDepth 100000 in
theorem xt_clear  : ht_MV l D dA yX1_clear (ws_ yX1_clear cX1_clear 1 none) 0 0 [.ref (ad 0)] (ht_X ad dA (nI ln) (nI cn) (nI tn) bf bb bt bo F T SF SB LV NR RE ND CR CS) (S := Unit) (fun (_ : Unit) => True) (fun _ => ht_X ad dA (nI ln) (nI 0) (nI 0) bf bb bt bo F T SF SB LV NR RE ND CR CS) := by
  refine ht_MV_of (by decide) (Nat.le_of_ble_eq_true rfl) ?_
  intro p e s m below meth c A hx hb hr hlk hml hown hts hK hA I ls hl
  have hown : s.vm.findClass RX1 = some m.cls := hown
  have hl : lv_has ls 1 [(0, .ref (ad 0))] := hl
  refine lv_aload_n hx hb dX1_clear_0 rfl (lv_at hl 0 rfl) ?_
  refine lv_iconst (v := nI 0) hx hb dX1_clear_1 (by decide) ?_
  refine ht_putX (ty := .int) (w3 := ht_X ad dA (nI ln) (nI 0) (nI tn) bf bb bt bo F T SF SB LV NR RE ND CR CS) hx hb hts hown hK I 1 (by decide) q37 rfl (by decide +kernel) rfl rfl rfl (Nat.le_of_ble_eq_true rfl) rfl dX1_clear_2 (fun H locs I => ?_)
  refine lv_aload_n hx hb dX1_clear_5 rfl (lv_at hl 0 rfl) ?_
  refine lv_iconst (v := nI 0) hx hb dX1_clear_6 (by decide) ?_
  refine ht_putX (ty := .int) (w3 := ht_X ad dA (nI ln) (nI 0) (nI 0) bf bb bt bo F T SF SB LV NR RE ND CR CS) hx hb hts hown hK I 4 (by decide) q40 rfl (by decide +kernel) rfl rfl rfl (Nat.le_of_ble_eq_true rfl) rfl dX1_clear_7 (fun H locs I => ?_)
  exact ht_vret hx hb hr hlk hK I (w2 := fun _ => ht_X ad dA (nI ln) (nI 0) (nI 0) bf bb bt bo F T SF SB LV NR RE ND CR CS) () trivial rfl dX1_clear_10
set_option maxHeartbeats 4000000 in
set_option maxRecDepth 100000 in
theorem xt_noNode (t nd : Int32) : ht_MI l D dA yX1_noNode (ws_ yX1_noNode cX1_noNode 3 (some .boolean)) 0 0 [.ref (ad 0), .int t, .int nd] (ht_X ad dA (nI ln) (nI cn) (nI tn) bf bb bt bo F T SF SB LV NR RE ND CR CS) (S := Unit) (fun (r : Int32) (_ : Unit) => r = ht_non tn t nd) (fun _ => ht_X ad dA (nI ln) (nI cn) (nI tn) bf bb bt bo F T SF SB LV NR RE ND CR CS) := by
  refine ht_MI_of (by decide) (Nat.le_of_ble_eq_true rfl) ?_
  intro p e s m below meth c A hx hb hr hlk hml hown hts hK hA I ls hl
  have hown : s.vm.findClass RX1 = some m.cls := hown
  have hl : lv_has ls 3 [(0, .ref (ad 0)), (1, .int t), (2, .int nd)] := hl
  refine lv_iload_n hx hb dX1_noNode_0 rfl (lv_at hl 1 rfl) ?_
  refine lv_if_lt (tgt := 22) hx hb dX1_noNode_1 (by decide) (fun c_1 => ?_) (fun c_1 => ?_)
  · refine lv_iconst (v := nI 1) hx hb dX1_noNode_22 (by decide) ?_
    refine lv_goto (tgt := 27) hx hb dX1_noNode_23 (by decide) ?_
    exact ht_zret hx hb hr rfl hlk hK I (w2 := fun _ => ht_X ad dA (nI ln) (nI cn) (nI tn) bf bb bt bo F T SF SB LV NR RE ND CR CS) () (by unfold ht_non; rw [if_pos c_1]) rfl dX1_noNode_27
  · refine lv_iload_n hx hb dX1_noNode_4 rfl (lv_at hl 1 rfl) ?_
    refine lv_aload_n hx hb dX1_noNode_5 rfl (lv_at hl 0 rfl) ?_
    refine ht_getX hx hb hts hown hK I 4 (by decide) q40 rfl rfl dX1_noNode_6 ?_
    refine lv_icmp_ge (tgt := 22) hx hb dX1_noNode_9 (by decide) (fun c_2 => ?_) (fun c_2 => ?_)
    · refine lv_iconst (v := nI 1) hx hb dX1_noNode_22 (by decide) ?_
      refine lv_goto (tgt := 27) hx hb dX1_noNode_23 (by decide) ?_
      exact ht_zret hx hb hr rfl hlk hK I (w2 := fun _ => ht_X ad dA (nI ln) (nI cn) (nI tn) bf bb bt bo F T SF SB LV NR RE ND CR CS) () (by unfold ht_non; rw [if_neg c_1, if_pos c_2]) rfl dX1_noNode_27
    · refine lv_iload_n hx hb dX1_noNode_12 rfl (lv_at hl 2 rfl) ?_
      refine lv_if_lt (tgt := 22) hx hb dX1_noNode_13 (by decide) (fun c_3 => ?_) (fun c_3 => ?_)
      · refine lv_iconst (v := nI 1) hx hb dX1_noNode_22 (by decide) ?_
        refine lv_goto (tgt := 27) hx hb dX1_noNode_23 (by decide) ?_
        exact ht_zret hx hb hr rfl hlk hK I (w2 := fun _ => ht_X ad dA (nI ln) (nI cn) (nI tn) bf bb bt bo F T SF SB LV NR RE ND CR CS) () (by unfold ht_non; rw [if_neg c_1, if_neg c_2, if_pos c_3]) rfl dX1_noNode_27
      · refine lv_iload_n hx hb dX1_noNode_16 rfl (lv_at hl 2 rfl) ?_
        refine lv_bipush (v := nI 7) hx hb dX1_noNode_17 (by decide) ?_
        refine lv_icmp_lt (tgt := 26) hx hb dX1_noNode_19 (by decide) (fun c_4 => ?_) (fun c_4 => ?_)
        · refine lv_iconst (v := nI 0) hx hb dX1_noNode_26 (by decide) ?_
          exact ht_zret hx hb hr rfl hlk hK I (w2 := fun _ => ht_X ad dA (nI ln) (nI cn) (nI tn) bf bb bt bo F T SF SB LV NR RE ND CR CS) () (by unfold ht_non; rw [if_neg c_1, if_neg c_2, if_neg c_3, if_pos c_4]) rfl dX1_noNode_27
        · refine lv_iconst (v := nI 1) hx hb dX1_noNode_22 (by decide) ?_
          refine lv_goto (tgt := 27) hx hb dX1_noNode_23 (by decide) ?_
          exact ht_zret hx hb hr rfl hlk hK I (w2 := fun _ => ht_X ad dA (nI ln) (nI cn) (nI tn) bf bb bt bo F T SF SB LV NR RE ND CR CS) () (by unfold ht_non; rw [if_neg c_1, if_neg c_2, if_neg c_3, if_neg c_4]) rfl dX1_noNode_27
set_option maxHeartbeats 4000000 in
set_option maxRecDepth 100000 in
theorem xt_feature (t nd : Int32) (htn : tn ≤ 4) : ht_MI l D dA yX1_feature (ws_ yX1_feature cX1_feature 3 (some .int)) 1 22 [.ref (ad 0), .int t, .int nd] (ht_X ad dA (nI ln) (nI cn) (nI tn) bf bb bt bo F T SF SB LV NR RE ND CR CS) (S := Unit) (fun (r : Int32) (_ : Unit) => r = ht_ask SF tn t nd) (fun _ => ht_X ad dA (nI ln) (nI cn) (nI tn) bf bb bt bo F T SF SB LV NR RE ND CR CS) := by
  refine ht_MI_of (by decide) (Nat.le_of_ble_eq_true rfl) ?_
  intro p e s m below meth c A hx hb hr hlk hml hown hts hK hA I ls hl
  have hown : s.vm.findClass RX1 = some m.cls := hown
  have hl : lv_has ls 3 [(0, .ref (ad 0)), (1, .int t), (2, .int nd)] := hl
  refine lv_aload_n hx hb dX1_feature_0 rfl (lv_at hl 0 rfl) ?_
  refine lv_iload_n hx hb dX1_feature_1 rfl (lv_at hl 1 rfl) ?_
  refine lv_iload_n hx hb dX1_feature_2 rfl (lv_at hl 2 rfl) ?_
  refine ht_callVi (As := [.int t, .int nd]) (rest := []) (wr := []) (q0 := 0) (ci := 0) hx hb hml hown hts hK hA I (xt_noNode l D dA ad ln cn tn bf bb bt bo F T SF SB LV NR RE ND CR CS t nd) (cwV 2 hts (lw_V q188 q190 qs15 q26 q191) rfl rfl rfl (by decide +kernel) (by decide)) rfl rfl [0, 1, 2, 3, 4, 5, 6, 7, 8, 9, 10] [] rfl rfl (by decide) (by decide) (by decide) rfl hl.1 rfl (Nat.le_of_ble_eq_true rfl) dX1_feature_3 (by decide) (fun r u H locs hp I => ?_)
  subst hp
  have I : ht_I D A s.heap (ht_X ad dA (nI ln) (nI cn) (nI tn) bf bb bt bo F T SF SB LV NR RE ND CR CS) H locs := I
  refine lv_if_eq (tgt := 14) hx hb dX1_feature_6 (by decide) (fun c_1 => ?_) (fun c_1 => ?_)
  · obtain ⟨a, b, ha, hb7, rfl, rfl⟩ := ht_non_0 c_1 (by omega)
    refine lv_aload_n hx hb dX1_feature_14 rfl (lv_at hl 0 rfl) ?_
    refine ht_getX hx hb hts hown hK I 5 (by decide) q41 rfl rfl dX1_feature_15 ?_
    refine lv_iload_n hx hb dX1_feature_18 rfl (lv_at hl 1 rfl) ?_
    refine lv_bipush (v := nI 7) hx hb dX1_feature_19 (by decide) ?_
    refine lv_imul hx hb dX1_feature_21 ?_
    refine ht_ti (pk_mul a 7) ?_
    refine lv_iload_n hx hb dX1_feature_22 rfl (lv_at hl 2 rfl) ?_
    refine lv_iadd hx hb dX1_feature_23 ?_
    refine ht_ti (nI_add (a * 7) b) ?_
    refine ht_ald hx hb hK I 3 rfl (by omega) dX1_feature_24 ?_
    exact ht_iret hx hb hr hlk hK I (w2 := fun _ => ht_X ad dA (nI ln) (nI cn) (nI tn) bf bb bt bo F T SF SB LV NR RE ND CR CS) () (by unfold ht_ask; rw [if_pos c_1, nI_clamp (n := a) (by omega), nI_clamp (n := b) (by omega)]) rfl dX1_feature_25
  · refine lv_bipush (v := (-5)) hx hb dX1_feature_9 (by decide) ?_
    refine lv_goto (tgt := 25) hx hb dX1_feature_11 (by decide) ?_
    exact ht_iret hx hb hr hlk hK I (w2 := fun _ => ht_X ad dA (nI ln) (nI cn) (nI tn) bf bb bt bo F T SF SB LV NR RE ND CR CS) () (by unfold ht_ask; rw [if_neg c_1]) rfl dX1_feature_25
set_option maxHeartbeats 4000000 in
set_option maxRecDepth 100000 in
theorem xt_rows (t nd : Int32) (htn : tn ≤ 4) : ht_MI l D dA yX1_rows (ws_ yX1_rows cX1_rows 3 (some .int)) 1 22 [.ref (ad 0), .int t, .int nd] (ht_X ad dA (nI ln) (nI cn) (nI tn) bf bb bt bo F T SF SB LV NR RE ND CR CS) (S := Unit) (fun (r : Int32) (_ : Unit) => r = ht_ask NR tn t nd) (fun _ => ht_X ad dA (nI ln) (nI cn) (nI tn) bf bb bt bo F T SF SB LV NR RE ND CR CS) := by
  refine ht_MI_of (by decide) (Nat.le_of_ble_eq_true rfl) ?_
  intro p e s m below meth c A hx hb hr hlk hml hown hts hK hA I ls hl
  have hown : s.vm.findClass RX1 = some m.cls := hown
  have hl : lv_has ls 3 [(0, .ref (ad 0)), (1, .int t), (2, .int nd)] := hl
  refine lv_aload_n hx hb dX1_rows_0 rfl (lv_at hl 0 rfl) ?_
  refine lv_iload_n hx hb dX1_rows_1 rfl (lv_at hl 1 rfl) ?_
  refine lv_iload_n hx hb dX1_rows_2 rfl (lv_at hl 2 rfl) ?_
  refine ht_callVi (As := [.int t, .int nd]) (rest := []) (wr := []) (q0 := 0) (ci := 0) hx hb hml hown hts hK hA I (xt_noNode l D dA ad ln cn tn bf bb bt bo F T SF SB LV NR RE ND CR CS t nd) (cwV 2 hts (lw_V q188 q190 qs15 q26 q191) rfl rfl rfl (by decide +kernel) (by decide)) rfl rfl [0, 1, 2, 3, 4, 5, 6, 7, 8, 9, 10] [] rfl rfl (by decide) (by decide) (by decide) rfl hl.1 rfl (Nat.le_of_ble_eq_true rfl) dX1_rows_3 (by decide) (fun r u H locs hp I => ?_)
  subst hp
  have I : ht_I D A s.heap (ht_X ad dA (nI ln) (nI cn) (nI tn) bf bb bt bo F T SF SB LV NR RE ND CR CS) H locs := I
  refine lv_if_eq (tgt := 14) hx hb dX1_rows_6 (by decide) (fun c_1 => ?_) (fun c_1 => ?_)
  · obtain ⟨a, b, ha, hb7, rfl, rfl⟩ := ht_non_0 c_1 (by omega)
    refine lv_aload_n hx hb dX1_rows_14 rfl (lv_at hl 0 rfl) ?_
    refine ht_getX hx hb hts hown hK I 8 (by decide) q44 rfl rfl dX1_rows_15 ?_
    refine lv_iload_n hx hb dX1_rows_18 rfl (lv_at hl 1 rfl) ?_
    refine lv_bipush (v := nI 7) hx hb dX1_rows_19 (by decide) ?_
    refine lv_imul hx hb dX1_rows_21 ?_
    refine ht_ti (pk_mul a 7) ?_
    refine lv_iload_n hx hb dX1_rows_22 rfl (lv_at hl 2 rfl) ?_
    refine lv_iadd hx hb dX1_rows_23 ?_
    refine ht_ti (nI_add (a * 7) b) ?_
    refine ht_ald hx hb hK I 6 rfl (by omega) dX1_rows_24 ?_
    exact ht_iret hx hb hr hlk hK I (w2 := fun _ => ht_X ad dA (nI ln) (nI cn) (nI tn) bf bb bt bo F T SF SB LV NR RE ND CR CS) () (by unfold ht_ask; rw [if_pos c_1, nI_clamp (n := a) (by omega), nI_clamp (n := b) (by omega)]) rfl dX1_rows_25
  · refine lv_bipush (v := (-5)) hx hb dX1_rows_9 (by decide) ?_
    refine lv_goto (tgt := 25) hx hb dX1_rows_11 (by decide) ?_
    exact ht_iret hx hb hr hlk hK I (w2 := fun _ => ht_X ad dA (nI ln) (nI cn) (nI tn) bf bb bt bo F T SF SB LV NR RE ND CR CS) () (by unfold ht_ask; rw [if_neg c_1]) rfl dX1_rows_25
set_option maxHeartbeats 4000000 in
set_option maxRecDepth 100000 in
theorem xt_bound (t nd : Int32) (htn : tn ≤ 4) : ht_MI l D dA yX1_bound (ws_ yX1_bound cX1_bound 4 (some .int)) 1 22 [.ref (ad 0), .int t, .int nd] (ht_X ad dA (nI ln) (nI cn) (nI tn) bf bb bt bo F T SF SB LV NR RE ND CR CS) (S := Unit) (fun (r : Int32) (_ : Unit) => r = ht_bound SF SB tn t nd) (fun _ => ht_X ad dA (nI ln) (nI cn) (nI tn) bf bb bt bo F T SF SB LV NR RE ND CR CS) := by
  refine ht_MI_of (by decide) (Nat.le_of_ble_eq_true rfl) ?_
  intro p e s m below meth c A hx hb hr hlk hml hown hts hK hA I ls hl
  have hown : s.vm.findClass RX1 = some m.cls := hown
  have hl : lv_has ls 4 [(0, .ref (ad 0)), (1, .int t), (2, .int nd)] := hl
  refine lv_aload_n hx hb dX1_bound_0 rfl (lv_at hl 0 rfl) ?_
  refine lv_iload_n hx hb dX1_bound_1 rfl (lv_at hl 1 rfl) ?_
  refine lv_iload_n hx hb dX1_bound_2 rfl (lv_at hl 2 rfl) ?_
  refine ht_callVi (As := [.int t, .int nd]) (rest := []) (wr := []) (q0 := 0) (ci := 0) hx hb hml hown hts hK hA I (xt_noNode l D dA ad ln cn tn bf bb bt bo F T SF SB LV NR RE ND CR CS t nd) (cwV 2 hts (lw_V q188 q190 qs15 q26 q191) rfl rfl rfl (by decide +kernel) (by decide)) rfl rfl [0, 1, 2, 3, 4, 5, 6, 7, 8, 9, 10] [] rfl rfl (by decide) (by decide) (by decide) rfl hl.1 rfl (Nat.le_of_ble_eq_true rfl) dX1_bound_3 (by decide) (fun r u H locs hp I => ?_)
  subst hp
  have I : ht_I D A s.heap (ht_X ad dA (nI ln) (nI cn) (nI tn) bf bb bt bo F T SF SB LV NR RE ND CR CS) H locs := I
  refine lv_if_eq (tgt := 12) hx hb dX1_bound_6 (by decide) (fun c_1 => ?_) (fun c_1 => ?_)
  · obtain ⟨a, b, ha, hb7, rfl, rfl⟩ := ht_non_0 c_1 (by omega)
    refine lv_aload_n hx hb dX1_bound_12 rfl (lv_at hl 0 rfl) ?_
    refine ht_getX hx hb hts hown hK I 5 (by decide) q41 rfl rfl dX1_bound_13 ?_
    refine lv_iload_n hx hb dX1_bound_16 rfl (lv_at hl 1 rfl) ?_
    refine lv_bipush (v := nI 7) hx hb dX1_bound_17 (by decide) ?_
    refine lv_imul hx hb dX1_bound_19 ?_
    refine ht_ti (pk_mul a 7) ?_
    refine lv_iload_n hx hb dX1_bound_20 rfl (lv_at hl 2 rfl) ?_
    refine lv_iadd hx hb dX1_bound_21 ?_
    refine ht_ti (nI_add (a * 7) b) ?_
    refine ht_ald hx hb hK I 3 rfl (by omega) dX1_bound_22 ?_
    refine lv_istore_n (lv' := [(3, .int (SF (a * 7 + b))), (0, .ref (ad 0)), (1, .int (nI a)), (2, .int (nI b))]) hx hb dX1_bound_23 rfl hl (by decide) rfl (fun ls hl => ?_)
    refine lv_iload_n hx hb dX1_bound_24 rfl (lv_at hl 0 rfl) ?_
    refine lv_if_ge (tgt := 32) hx hb dX1_bound_25 (by decide) (fun c_2 => ?_) (fun c_2 => ?_)
    · refine lv_aload_n hx hb dX1_bound_32 rfl (lv_at hl 1 rfl) ?_
      refine ht_getX hx hb hts hown hK I 6 (by decide) q42 rfl rfl dX1_bound_33 ?_
      refine lv_iload_n hx hb dX1_bound_36 rfl (lv_at hl 2 rfl) ?_
      refine lv_bipush (v := nI 7) hx hb dX1_bound_37 (by decide) ?_
      refine lv_imul hx hb dX1_bound_39 ?_
      refine ht_ti (pk_mul a 7) ?_
      refine lv_iload_n hx hb dX1_bound_40 rfl (lv_at hl 3 rfl) ?_
      refine lv_iadd hx hb dX1_bound_41 ?_
      refine ht_ti (nI_add (a * 7) b) ?_
      refine ht_ald hx hb hK I 4 rfl (by omega) dX1_bound_42 ?_
      exact ht_iret hx hb hr hlk hK I (w2 := fun _ => ht_X ad dA (nI ln) (nI cn) (nI tn) bf bb bt bo F T SF SB LV NR RE ND CR CS) () (by unfold ht_bound; rw [if_pos c_1, nI_clamp (n := a) (by omega), nI_clamp (n := b) (by omega), if_pos c_2]) rfl dX1_bound_43
    · refine lv_iload_n hx hb dX1_bound_28 rfl (lv_at hl 0 rfl) ?_
      refine lv_goto (tgt := 43) hx hb dX1_bound_29 (by decide) ?_
      exact ht_iret hx hb hr hlk hK I (w2 := fun _ => ht_X ad dA (nI ln) (nI cn) (nI tn) bf bb bt bo F T SF SB LV NR RE ND CR CS) () (by unfold ht_bound; rw [if_pos c_1, nI_clamp (n := a) (by omega), nI_clamp (n := b) (by omega), if_neg c_2]) rfl dX1_bound_43
  · refine lv_bipush (v := (-5)) hx hb dX1_bound_9 (by decide) ?_
    exact ht_iret hx hb hr hlk hK I (w2 := fun _ => ht_X ad dA (nI ln) (nI cn) (nI tn) bf bb bt bo F T SF SB LV NR RE ND CR CS) () (by unfold ht_bound; rw [if_neg c_1]) rfl dX1_bound_11
set_option maxHeartbeats 4000000 in
set_option maxRecDepth 100000 in
theorem xt_value (t nd : Int32) (htn : tn ≤ 4) : ht_MI l D dA yX1_value (ws_ yX1_value cX1_value 3 (some .int)) 1 22 [.ref (ad 0), .int t, .int nd] (ht_X ad dA (nI ln) (nI cn) (nI tn) bf bb bt bo F T SF SB LV NR RE ND CR CS) (S := Unit) (fun (r : Int32) (_ : Unit) => r = ht_value SF LV tn t nd) (fun _ => ht_X ad dA (nI ln) (nI cn) (nI tn) bf bb bt bo F T SF SB LV NR RE ND CR CS) := by
  refine ht_MI_of (by decide) (Nat.le_of_ble_eq_true rfl) ?_
  intro p e s m below meth c A hx hb hr hlk hml hown hts hK hA I ls hl
  have hown : s.vm.findClass RX1 = some m.cls := hown
  have hl : lv_has ls 3 [(0, .ref (ad 0)), (1, .int t), (2, .int nd)] := hl
  refine lv_aload_n hx hb dX1_value_0 rfl (lv_at hl 0 rfl) ?_
  refine lv_iload_n hx hb dX1_value_1 rfl (lv_at hl 1 rfl) ?_
  refine lv_iload_n hx hb dX1_value_2 rfl (lv_at hl 2 rfl) ?_
  refine ht_callVi (As := [.int t, .int nd]) (rest := []) (wr := []) (q0 := 0) (ci := 0) hx hb hml hown hts hK hA I (xt_noNode l D dA ad ln cn tn bf bb bt bo F T SF SB LV NR RE ND CR CS t nd) (cwV 2 hts (lw_V q188 q190 qs15 q26 q191) rfl rfl rfl (by decide +kernel) (by decide)) rfl rfl [0, 1, 2, 3, 4, 5, 6, 7, 8, 9, 10] [] rfl rfl (by decide) (by decide) (by decide) rfl hl.1 rfl (Nat.le_of_ble_eq_true rfl) dX1_value_3 (by decide) (fun r u H locs hp I => ?_)
  subst hp
  have I : ht_I D A s.heap (ht_X ad dA (nI ln) (nI cn) (nI tn) bf bb bt bo F T SF SB LV NR RE ND CR CS) H locs := I
  refine lv_if_eq (tgt := 11) hx hb dX1_value_6 (by decide) (fun c_1 => ?_) (fun c_1 => ?_)
  · obtain ⟨a, b, ha, hb7, rfl, rfl⟩ := ht_non_0 c_1 (by omega)
    refine lv_aload_n hx hb dX1_value_11 rfl (lv_at hl 0 rfl) ?_
    refine ht_getX hx hb hts hown hK I 5 (by decide) q41 rfl rfl dX1_value_12 ?_
    refine lv_iload_n hx hb dX1_value_15 rfl (lv_at hl 1 rfl) ?_
    refine lv_bipush (v := nI 7) hx hb dX1_value_16 (by decide) ?_
    refine lv_imul hx hb dX1_value_18 ?_
    refine ht_ti (pk_mul a 7) ?_
    refine lv_iload_n hx hb dX1_value_19 rfl (lv_at hl 2 rfl) ?_
    refine lv_iadd hx hb dX1_value_20 ?_
    refine ht_ti (nI_add (a * 7) b) ?_
    refine ht_ald hx hb hK I 3 rfl (by omega) dX1_value_21 ?_
    refine lv_bipush (v := (-6)) hx hb dX1_value_22 (by decide) ?_
    refine lv_icmp_ne (tgt := 41) hx hb dX1_value_24 (by decide) (fun c_2 => ?_) (fun c_2 => ?_)
    · refine lv_iconst (v := nI 0) hx hb dX1_value_41 (by decide) ?_
      exact ht_iret hx hb hr hlk hK I (w2 := fun _ => ht_X ad dA (nI ln) (nI cn) (nI tn) bf bb bt bo F T SF SB LV NR RE ND CR CS) () (by unfold ht_value; rw [if_pos c_1, nI_clamp (n := a) (by omega), nI_clamp (n := b) (by omega), if_neg c_2]) rfl dX1_value_42
    · refine lv_aload_n hx hb dX1_value_27 rfl (lv_at hl 0 rfl) ?_
      refine ht_getX hx hb hts hown hK I 7 (by decide) q43 rfl rfl dX1_value_28 ?_
      refine lv_iload_n hx hb dX1_value_31 rfl (lv_at hl 1 rfl) ?_
      refine lv_bipush (v := nI 7) hx hb dX1_value_32 (by decide) ?_
      refine lv_imul hx hb dX1_value_34 ?_
      refine ht_ti (pk_mul a 7) ?_
      refine lv_iload_n hx hb dX1_value_35 rfl (lv_at hl 2 rfl) ?_
      refine lv_iadd hx hb dX1_value_36 ?_
      refine ht_ti (nI_add (a * 7) b) ?_
      refine ht_ald hx hb hK I 5 rfl (by omega) dX1_value_37 ?_
      refine lv_goto (tgt := 42) hx hb dX1_value_38 (by decide) ?_
      exact ht_iret hx hb hr hlk hK I (w2 := fun _ => ht_X ad dA (nI ln) (nI cn) (nI tn) bf bb bt bo F T SF SB LV NR RE ND CR CS) () (by unfold ht_value; rw [if_pos c_1, nI_clamp (n := a) (by omega), nI_clamp (n := b) (by omega), if_pos c_2]) rfl dX1_value_42
  · refine lv_iconst (v := nI 0) hx hb dX1_value_9 (by decide) ?_
    exact ht_iret hx hb hr hlk hK I (w2 := fun _ => ht_X ad dA (nI ln) (nI cn) (nI tn) bf bb bt bo F T SF SB LV NR RE ND CR CS) () (by unfold ht_value; rw [if_neg c_1]) rfl dX1_value_10
end
section
/-! PURE 3: what the reference computes -/
def ht_bad (tg : Int32) : Int32 := if tg < (-50) then nI 1 else if tg ≤ nI 50 then nI 0 else nI 1
theorem ht_bad_0 {tg : Int32} (h : ht_bad tg = 0) : ¬ tg < (-50) ∧ tg ≤ nI 50 := by
  unfold ht_bad at h
  by_cases c1 : tg < (-50)
  · rw [if_pos c1] at h; exact absurd h (by decide)
  rw [if_neg c1] at h
  by_cases c2 : tg ≤ nI 50
  · exact ⟨c1, c2⟩
  · rw [if_neg c2] at h; exact absurd h (by decide)
theorem ht_bad_1 {tg : Int32} {α : Type} {a b : α} (h : ¬ ht_bad tg = 0) : (if tg < (-50) then a else if tg ≤ nI 50 then b else a) = a := by
  unfold ht_bad at h
  by_cases c1 : tg < (-50)
  · rw [if_pos c1]
  rw [if_neg c1] at h
  rw [if_neg c1]
  by_cases c2 : tg ≤ nI 50
  · rw [if_pos c2] at h; exact absurd nI_0 h
  · rw [if_neg c2]
theorem ht_le6 (x : Int32) : x ≤ nI 6 ↔ x < nI 7 := by
  rw [Int32.le_iff_toInt_le, Int32.lt_iff_toInt_lt, nI_toInt (by decide), nI_toInt (by decide)]
  omega
theorem ht_le0 {n : Nat} (h : n < 2 ^ 31) : nI n ≤ 0 ↔ n = 0 := by
  rw [Int32.le_iff_toInt_le, nI_toInt h]
  have : (0 : Int32).toInt = 0 := by decide
  rw [this]
  omega
theorem ht_restq_in {SF SB LV F T : Nat → Int32} {cn tn i : Nat} (h : i < cn) (hc : cn < 2 ^ 31) : ht_restq SF SB LV F T cn tn (nI i) = ht_rest SF SB LV F T tn i := by
  unfold ht_restq
  rw [if_neg (nI_pos (by omega)), if_pos (nI_lt h hc), nI_clamp (by omega)]
/-- row i is in node nd and its value of f is at most b -/
def ht_L (F ND : Nat → Int32) (nd : Nat) (f b : Int32) (i : Nat) : Bool := decide (ND i = nI nd ∧ ¬ b < ht_cl (F i) f)
def ht_cnt (P : Nat → Bool) : Nat → Nat
  | 0 => 0
  | i + 1 => if P i = true then ht_cnt P i + 1 else ht_cnt P i
def ht_sum (P : Nat → Bool) (RE : Nat → Int32) : Nat → Int
  | 0 => 0
  | i + 1 => if P i = true then ht_sum P RE i + (RE i).toInt else ht_sum P RE i
theorem ht_cnt_le (P : Nat → Bool) : ∀ n, ht_cnt P n ≤ n
  | 0 => Nat.le_refl 0
  | n + 1 => by
    have := ht_cnt_le P n
    unfold ht_cnt
    split <;> omega
theorem ht_L_1 {F ND : Nat → Int32} {nd : Nat} {f b : Int32} {i : Nat} (h1 : ND i = nI nd) (h2 : ¬ b < ht_cl (F i) f) : ht_L F ND nd f b i = true := decide_eq_true ⟨h1, h2⟩
theorem ht_L_0 {F ND : Nat → Int32} {nd : Nat} {f b : Int32} {i : Nat} (h : ¬ ND i = nI nd ∨ b < ht_cl (F i) f) : ¬ ht_L F ND nd f b i = true := by
  intro q
  have := of_decide_eq_true q
  rcases h with h | h
  · exact h this.1
  · exact this.2 h
theorem ht_i2l (x : Int32) : x.toInt64 = Int64.ofInt x.toInt := by
  apply Int64.toInt_inj.mp
  rw [Int32.toInt_toInt64, Int64.toInt_ofInt_of_le]
  · have := Int32.le_toInt x; omega
  · have := Int32.toInt_lt x; omega
/-- the search of the reference: top, bottom, the tree's cells -/
abbrev ht_Ms : Type := Int64 × Int64 × ht_f3 × ht_f3
def ht_ms (lz : Int32) (a f b : Nat) (nl sl n s : Int64) (M : ht_Ms) : ht_Ms :=
  if nl < lz.toInt64 then M else if n - nl < lz.toInt64 then M else
  if (sl * sl * (n - nl) + (s - sl) * (s - sl) * nl) * M.2.1 ≤ M.1 * nl * (n - nl) then M else
    (sl * sl * (n - nl) + (s - sl) * (s - sl) * nl, nl * (n - nl), upd M.2.2.1 a (nI f), upd M.2.2.2 a (nI b))
def ht_mf (lz : Int32) (a : Nat) (F ND RE : Nat → Int32) (cn nd : Nat) (n s : Int64) (M : ht_Ms) : Nat → ht_Ms
  | 0 => M
  | c + 1 => ht_ms lz a (c / 7) (c % 7) (nI (ht_cnt (ht_L F ND nd (nI (c / 7)) (nI (c % 7))) cn)).toInt64 (Int64.ofInt (ht_sum (ht_L F ND nd (nI (c / 7)) (nI (c % 7))) RE cn)) n s (ht_mf lz a F ND RE cn nd n s M c)
theorem ht_mf_s (lz : Int32) (a : Nat) (F ND RE : Nat → Int32) (cn nd : Nat) (n s : Int64) (M : ht_Ms) (f b : Nat) (hb : b < 7) : ht_mf lz a F ND RE cn nd n s M (f * 7 + b + 1) = ht_ms lz a f b (nI (ht_cnt (ht_L F ND nd (nI f) (nI b)) cn)).toInt64 (Int64.ofInt (ht_sum (ht_L F ND nd (nI f) (nI b)) RE cn)) n s (ht_mf lz a F ND RE cn nd n s M (f * 7 + b)) := by
  have e1 : (f * 7 + b) / 7 = f := by omega
  have e2 : (f * 7 + b) % 7 = b := by omega
  show ht_ms lz a ((f * 7 + b) / 7) ((f * 7 + b) % 7) (nI (ht_cnt (ht_L F ND nd (nI ((f * 7 + b) / 7)) (nI ((f * 7 + b) % 7))) cn)).toInt64 (Int64.ofInt (ht_sum (ht_L F ND nd (nI ((f * 7 + b) / 7)) (nI ((f * 7 + b) % 7))) RE cn)) n s (ht_mf lz a F ND RE cn nd n s M (f * 7 + b)) = _
  rw [e1, e2]
abbrev ht_T3 : Type := ht_f3 × ht_f3 × ht_f3
/-- behind the search: the tree's cells and the rows' nodes -/
def ht_spl (F ND : Nat → Int32) (cn nd a : Nat) (M : ht_Ms) : ht_T3 :=
  if M.2.2.1 a < 0 then (M.2.2.1, M.2.2.2, ND) else (upd (upd M.2.2.1 (a + nd + 1) (-6)) (a + nd + 2) (-6), M.2.2.2, ht_send F ND (M.2.2.1 a) (M.2.2.2 a) nd cn)
def ht_m0 (F ND RE SF SB : Nat → Int32) (cn nd : Nat) : ht_Ms := (Int64.ofInt (ht_sum (ht_L F ND nd (nI 0) (nI 7)) RE cn) * Int64.ofInt (ht_sum (ht_L F ND nd (nI 0) (nI 7)) RE cn), (nI (ht_cnt (ht_L F ND nd (nI 0) (nI 7)) cn)).toInt64, SF, SB)
def ht_split (lz : Int32) (F ND RE SF SB : Nat → Int32) (cn nd a : Nat) : ht_T3 :=
  ht_spl F ND cn nd a (ht_mf lz a F ND RE cn nd (nI (ht_cnt (ht_L F ND nd (nI 0) (nI 7)) cn)).toInt64 (Int64.ofInt (ht_sum (ht_L F ND nd (nI 0) (nI 7)) RE cn)) (ht_m0 F ND RE SF SB cn nd) 21)
def ht_stl0 (lz : Int32) (F ND RE SF SB : Nat → Int32) (cn nd a n : Nat) : ht_T3 := if nd < 3 then (if n = 0 then (SF, SB, ND) else ht_split lz F ND RE SF SB cn nd a) else (SF, SB, ND)
/-- the leaf's value, where it is one -/
def ht_stl1 (LV : Nat → Int32) (a n : Nat) (sm : Int32) (U : ht_T3) : ht_f3 := if U.1 a = (-6) then (if n = 0 then LV else upd LV a (sm / nI n)) else LV
end
section
variable (l : Launch) (D : va_G) (dA : ClassId) (ad : Nat → Nat) (ln cn tn : Nat) (F T SF SB LV NR RE ND : Nat → Int32)
set_option maxHeartbeats 4000000 in
set_option maxRecDepth 100000 in
theorem mt_cell (b : Nat) (x f : Int32) : ht_MI l D dA yX2_cell (ws_ yX2_cell cX2_cell 3 (some .int)) 0 0 [.ref b, .int x, .int f] ([]) (S := Unit) (fun (r : Int32) (_ : Unit) => r = ht_cl x f) (fun _ => ([] : va_W)) := by
  refine ht_MI_of (by decide) (Nat.le_of_ble_eq_true rfl) ?_
  intro p e s m below meth c A hx hb hr hlk hml hown hts hK hA I ls hl
  have hown : s.vm.findClass RX2 = some m.cls := hown
  have hl : lv_has ls 3 [(0, .ref b), (1, .int x), (2, .int f)] := hl
  refine lv_iload_n hx hb dX2_cell_0 rfl (lv_at hl 1 rfl) ?_
  refine lv_iconst (v := nI 3) hx hb dX2_cell_1 (by decide) ?_
  refine lv_iload_n hx hb dX2_cell_2 rfl (lv_at hl 2 rfl) ?_
  refine lv_imul hx hb dX2_cell_3 ?_
  refine lv_ishr hx hb dX2_cell_4 ?_
  refine lv_bipush (v := nI 7) hx hb dX2_cell_5 (by decide) ?_
  refine lv_iand hx hb dX2_cell_7 ?_
  exact ht_iret hx hb hr hlk hK I (w2 := fun _ => ([] : va_W)) () rfl rfl dX2_cell_8
set_option maxHeartbeats 4000000 in
set_option maxRecDepth 100000 in
theorem mt_badTarget (b : Nat) (tg : Int32) : ht_MI l D dA yX2_badTarget (ws_ yX2_badTarget cX2_badTarget 2 (some .boolean)) 0 0 [.ref b, .int tg] ([]) (S := Unit) (fun (r : Int32) (_ : Unit) => r = ht_bad tg) (fun _ => ([] : va_W)) := by
  refine ht_MI_of (by decide) (Nat.le_of_ble_eq_true rfl) ?_
  intro p e s m below meth c A hx hb hr hlk hml hown hts hK hA I ls hl
  have hown : s.vm.findClass RX2 = some m.cls := hown
  have hl : lv_has ls 2 [(0, .ref b), (1, .int tg)] := hl
  refine lv_iload_n hx hb dX2_badTarget_0 rfl (lv_at hl 1 rfl) ?_
  refine lv_bipush (v := (-50)) hx hb dX2_badTarget_1 (by decide) ?_
  refine lv_icmp_lt (tgt := 12) hx hb dX2_badTarget_3 (by decide) (fun c_1 => ?_) (fun c_1 => ?_)
  · refine lv_iconst (v := nI 1) hx hb dX2_badTarget_12 (by decide) ?_
    refine lv_goto (tgt := 17) hx hb dX2_badTarget_13 (by decide) ?_
    exact ht_zret hx hb hr rfl hlk hK I (w2 := fun _ => ([] : va_W)) () (by unfold ht_bad; rw [if_pos c_1]) rfl dX2_badTarget_17
  · refine lv_iload_n hx hb dX2_badTarget_6 rfl (lv_at hl 1 rfl) ?_
    refine lv_bipush (v := nI 50) hx hb dX2_badTarget_7 (by decide) ?_
    refine lv_icmp_le (tgt := 16) hx hb dX2_badTarget_9 (by decide) (fun c_2 => ?_) (fun c_2 => ?_)
    · refine lv_iconst (v := nI 0) hx hb dX2_badTarget_16 (by decide) ?_
      exact ht_zret hx hb hr rfl hlk hK I (w2 := fun _ => ([] : va_W)) () (by unfold ht_bad; rw [if_neg c_1, if_pos c_2]) rfl dX2_badTarget_17
    · refine lv_iconst (v := nI 1) hx hb dX2_badTarget_12 (by decide) ?_
      refine lv_goto (tgt := 17) hx hb dX2_badTarget_13 (by decide) ?_
      exact ht_zret hx hb hr rfl hlk hK I (w2 := fun _ => ([] : va_W)) () (by unfold ht_bad; rw [if_neg c_1, if_neg c_2]) rfl dX2_badTarget_17
set_option maxHeartbeats 4000000 in
set_option maxRecDepth 100000 in
theorem mt_row (fe tg : Int32) (hcn : cn ≤ 24) : ht_MI l D dA yX2_row (ws_ yX2_row cX2_row 3 (some .int)) 1 21 [.ref (ad 0), .int fe, .int tg] (ht_M ad dA (nI ln) (nI cn) (nI tn) F T SF SB LV NR RE ND) (S := Nat × ht_f3 × ht_f3) (fun (r : Int32) (u : Nat × ht_f3 × ht_f3) => (r, u) = ht_row cn F T fe tg) (fun (u : Nat × ht_f3 × ht_f3) => ht_M ad dA (nI ln) (nI u.1) (nI tn) u.2.1 u.2.2 SF SB LV NR RE ND) := by
  refine ht_MI_of (by decide) (Nat.le_of_ble_eq_true rfl) ?_
  intro p e s m below meth c A hx hb hr hlk hml hown hts hK hA I ls hl
  have hown : s.vm.findClass RX2 = some m.cls := hown
  have hl : lv_has ls 3 [(0, .ref (ad 0)), (1, .int fe), (2, .int tg)] := hl
  refine lv_aload_n hx hb dX2_row_0 rfl (lv_at hl 0 rfl) ?_
  refine lv_iload_n hx hb dX2_row_1 rfl (lv_at hl 2 rfl) ?_
  refine ht_callVi (As := [.int tg]) (rest := []) (wr := ht_M ad dA (nI ln) (nI cn) (nI tn) F T SF SB LV NR RE ND) (q0 := 0) (ci := 1) hx hb hml hown hts hK hA I (mt_badTarget l D dA (ad 0) tg) (cwV 1 hts (lw_V q251 q253 qs16 q27 q254) rfl rfl rfl (by decide +kernel) (by decide)) rfl rfl [] [0, 1, 2, 3, 4, 5, 6, 7, 8] rfl rfl (by decide) (by decide) (by decide) rfl hl.1 rfl (Nat.le_of_ble_eq_true rfl) dX2_row_2 (by decide) (fun r u H locs hp I => ?_)
  subst hp
  have I : ht_I D A s.heap (ht_M ad dA (nI ln) (nI cn) (nI tn) F T SF SB LV NR RE ND) H locs := I
  refine lv_if_eq (tgt := 11) hx hb dX2_row_5 (by decide) (fun c_1 => ?_) (fun c_1 => ?_)
  · obtain ⟨h1, h2⟩ := ht_bad_0 c_1
    refine lv_aload_n hx hb dX2_row_11 rfl (lv_at hl 0 rfl) ?_
    refine ht_getM hx hb hts hown hK I 1 (by decide) q214 rfl rfl dX2_row_12 ?_
    refine lv_bipush (v := nI 24) hx hb dX2_row_15 (by decide) ?_
    refine ht_ne (tgt := 23) hx hb dX2_row_17 (by decide) (by omega) (by omega) (fun c_2 => ?_) (fun c_2 => ?_)
    · refine lv_aload_n hx hb dX2_row_23 rfl (lv_at hl 0 rfl) ?_
      refine ht_getM hx hb hts hown hK I 2 (by decide) q215 rfl rfl dX2_row_24 ?_
      refine lv_aload_n hx hb dX2_row_27 rfl (lv_at hl 0 rfl) ?_
      refine ht_getM hx hb hts hown hK I 1 (by decide) q214 rfl rfl dX2_row_28 ?_
      refine lv_iload_n hx hb dX2_row_31 rfl (lv_at hl 1 rfl) ?_
      refine lv_sipush (v := nI 511) hx hb dX2_row_32 (by decide) ?_
      refine lv_iand hx hb dX2_row_35 ?_
      refine ht_ast (w3 := ht_M ad dA (nI ln) (nI cn) (nI tn) (upd F cn (fe &&& (nI 511))) T SF SB LV NR RE ND) hx hb hK I 1 rfl (by omega) rfl dX2_row_36 (fun H locs I => ?_)
      refine lv_aload_n hx hb dX2_row_37 rfl (lv_at hl 0 rfl) ?_
      refine ht_getM hx hb hts hown hK I 3 (by decide) q216 rfl rfl dX2_row_38 ?_
      refine lv_aload_n hx hb dX2_row_41 rfl (lv_at hl 0 rfl) ?_
      refine ht_getM hx hb hts hown hK I 1 (by decide) q214 rfl rfl dX2_row_42 ?_
      refine lv_iload_n hx hb dX2_row_45 rfl (lv_at hl 2 rfl) ?_
      refine ht_ast (w3 := ht_M ad dA (nI ln) (nI cn) (nI tn) (upd F cn (fe &&& (nI 511))) (upd T cn tg) SF SB LV NR RE ND) hx hb hK I 2 rfl (by omega) rfl dX2_row_46 (fun H locs I => ?_)
      refine lv_aload_n hx hb dX2_row_47 rfl (lv_at hl 0 rfl) ?_
      refine lv_aload_n hx hb dX2_row_48 rfl (lv_at hl 0 rfl) ?_
      refine ht_getM hx hb hts hown hK I 1 (by decide) q214 rfl rfl dX2_row_49 ?_
      refine lv_iconst (v := nI 1) hx hb dX2_row_52 (by decide) ?_
      refine lv_iadd hx hb dX2_row_53 ?_
      refine ht_ti (nI_add cn 1) ?_
      refine ht_putM (ty := .int) (w3 := ht_M ad dA (nI ln) (nI (cn + 1)) (nI tn) (upd F cn (fe &&& (nI 511))) (upd T cn tg) SF SB LV NR RE ND) hx hb hts hown hK I 1 (by decide) q214 rfl (by decide +kernel) rfl rfl rfl (Nat.le_of_ble_eq_true rfl) rfl dX2_row_54 (fun H locs I => ?_)
      refine lv_aload_n hx hb dX2_row_57 rfl (lv_at hl 0 rfl) ?_
      refine ht_getM hx hb hts hown hK I 1 (by decide) q214 rfl rfl dX2_row_58 ?_
      exact ht_iret hx hb hr hlk hK I (w2 := fun (u : Nat × ht_f3 × ht_f3) => ht_M ad dA (nI ln) (nI u.1) (nI tn) u.2.1 u.2.2 SF SB LV NR RE ND) ((cn + 1), (upd F cn (fe &&& (nI 511))), (upd T cn tg)) (by unfold ht_row; rw [if_neg h1, if_pos h2, if_pos (by omega)]) rfl dX2_row_61
    · refine lv_bipush (v := (-3)) hx hb dX2_row_20 (by decide) ?_
      exact ht_iret hx hb hr hlk hK I (w2 := fun (u : Nat × ht_f3 × ht_f3) => ht_M ad dA (nI ln) (nI u.1) (nI tn) u.2.1 u.2.2 SF SB LV NR RE ND) (cn, F, T) (by unfold ht_row; rw [if_neg h1, if_pos h2, if_neg (by omega)]) rfl dX2_row_22
  · refine lv_bipush (v := (-2)) hx hb dX2_row_8 (by decide) ?_
    exact ht_iret hx hb hr hlk hK I (w2 := fun (u : Nat × ht_f3 × ht_f3) => ht_M ad dA (nI ln) (nI u.1) (nI tn) u.2.1 u.2.2 SF SB LV NR RE ND) (cn, F, T) (ht_bad_1 c_1).symm rfl dX2_row_10
set_option maxHeartbeats 4000000 in
set_option maxRecDepth 100000 in
theorem mt_retarget (i tg : Int32) (hcn : cn ≤ 24) : ht_MI l D dA yX2_retarget (ws_ yX2_retarget cX2_retarget 4 (some .int)) 1 21 [.ref (ad 0), .int i, .int tg] (ht_M ad dA (nI ln) (nI cn) (nI tn) F T SF SB LV NR RE ND) (S := ht_f3) (fun (r : Int32) (u : ht_f3) => (r, u) = ht_retarget cn T i tg) (fun (u : ht_f3) => ht_M ad dA (nI ln) (nI cn) (nI tn) F u SF SB LV NR RE ND) := by
  refine ht_MI_of (by decide) (Nat.le_of_ble_eq_true rfl) ?_
  intro p e s m below meth c A hx hb hr hlk hml hown hts hK hA I ls hl
  have hown : s.vm.findClass RX2 = some m.cls := hown
  have hl : lv_has ls 4 [(0, .ref (ad 0)), (1, .int i), (2, .int tg)] := hl
  refine lv_iload_n hx hb dX2_retarget_0 rfl (lv_at hl 1 rfl) ?_
  refine lv_if_lt (tgt := 12) hx hb dX2_retarget_1 (by decide) (fun c_1 => ?_) (fun c_1 => ?_)
  · refine lv_bipush (v := (-5)) hx hb dX2_retarget_12 (by decide) ?_
    exact ht_iret hx hb hr hlk hK I (w2 := fun (u : ht_f3) => ht_M ad dA (nI ln) (nI cn) (nI tn) F u SF SB LV NR RE ND) T (by unfold ht_retarget; rw [if_pos c_1]) rfl dX2_retarget_14
  · refine lv_iload_n hx hb dX2_retarget_4 rfl (lv_at hl 1 rfl) ?_
    refine lv_aload_n hx hb dX2_retarget_5 rfl (lv_at hl 0 rfl) ?_
    refine ht_getM hx hb hts hown hK I 1 (by decide) q214 rfl rfl dX2_retarget_6 ?_
    refine lv_icmp_lt (tgt := 15) hx hb dX2_retarget_9 (by decide) (fun c_2 => ?_) (fun c_2 => ?_)
    · obtain ⟨j, hj, rfl⟩ := ht_idx c_1 c_2 (by omega)
      refine lv_aload_n hx hb dX2_retarget_15 rfl (lv_at hl 0 rfl) ?_
      refine lv_iload_n hx hb dX2_retarget_16 rfl (lv_at hl 2 rfl) ?_
      refine ht_callVi (As := [.int tg]) (rest := []) (wr := ht_M ad dA (nI ln) (nI cn) (nI tn) F T SF SB LV NR RE ND) (q0 := 0) (ci := 1) hx hb hml hown hts hK hA I (mt_badTarget l D dA (ad 0) tg) (cwV 1 hts (lw_V q251 q253 qs16 q27 q254) rfl rfl rfl (by decide +kernel) (by decide)) rfl rfl [] [0, 1, 2, 3, 4, 5, 6, 7, 8] rfl rfl (by decide) (by decide) (by decide) rfl hl.1 rfl (Nat.le_of_ble_eq_true rfl) dX2_retarget_17 (by decide) (fun r u H locs hp I => ?_)
      subst hp
      have I : ht_I D A s.heap (ht_M ad dA (nI ln) (nI cn) (nI tn) F T SF SB LV NR RE ND) H locs := I
      refine lv_if_eq (tgt := 26) hx hb dX2_retarget_20 (by decide) (fun c_3 => ?_) (fun c_3 => ?_)
      · obtain ⟨h1, h2⟩ := ht_bad_0 c_3
        refine lv_aload_n hx hb dX2_retarget_26 rfl (lv_at hl 0 rfl) ?_
        refine ht_getM hx hb hts hown hK I 3 (by decide) q216 rfl rfl dX2_retarget_27 ?_
        refine lv_iload_n hx hb dX2_retarget_30 rfl (lv_at hl 1 rfl) ?_
        refine ht_ald hx hb hK I 2 rfl (by omega) dX2_retarget_31 ?_
        refine lv_istore_n (lv' := [(3, .int (T j)), (0, .ref (ad 0)), (1, .int (nI j)), (2, .int tg)]) hx hb dX2_retarget_32 rfl hl (by decide) rfl (fun ls hl => ?_)
        refine lv_aload_n hx hb dX2_retarget_33 rfl (lv_at hl 1 rfl) ?_
        refine ht_getM hx hb hts hown hK I 3 (by decide) q216 rfl rfl dX2_retarget_34 ?_
        refine lv_iload_n hx hb dX2_retarget_37 rfl (lv_at hl 2 rfl) ?_
        refine lv_iload_n hx hb dX2_retarget_38 rfl (lv_at hl 3 rfl) ?_
        refine ht_ast (w3 := ht_M ad dA (nI ln) (nI cn) (nI tn) F (upd T j tg) SF SB LV NR RE ND) hx hb hK I 2 rfl (by omega) rfl dX2_retarget_39 (fun H locs I => ?_)
        refine lv_iload_n hx hb dX2_retarget_40 rfl (lv_at hl 0 rfl) ?_
        exact ht_iret hx hb hr hlk hK I (w2 := fun (u : ht_f3) => ht_M ad dA (nI ln) (nI cn) (nI tn) F u SF SB LV NR RE ND) (upd T j tg) (by unfold ht_retarget; rw [if_neg c_1, if_pos c_2, if_neg h1, if_pos h2, nI_clamp (by omega)]) rfl dX2_retarget_41
      · refine lv_bipush (v := (-2)) hx hb dX2_retarget_23 (by decide) ?_
        exact ht_iret hx hb hr hlk hK I (w2 := fun (u : ht_f3) => ht_M ad dA (nI ln) (nI cn) (nI tn) F u SF SB LV NR RE ND) T (by unfold ht_retarget; rw [if_neg c_1, if_pos c_2, ht_bad_1 c_3]) rfl dX2_retarget_25
    · refine lv_bipush (v := (-5)) hx hb dX2_retarget_12 (by decide) ?_
      exact ht_iret hx hb hr hlk hK I (w2 := fun (u : ht_f3) => ht_M ad dA (nI ln) (nI cn) (nI tn) F u SF SB LV NR RE ND) T (by unfold ht_retarget; rw [if_neg c_1, if_neg c_2]) rfl dX2_retarget_14
set_option maxHeartbeats 4000000 in
set_option maxRecDepth 100000 in
theorem mt_dropTree (htn : tn ≤ 4) : ht_MI l D dA yX2_dropTree (ws_ yX2_dropTree cX2_dropTree 1 (some .int)) 0 0 [.ref (ad 0)] (ht_M ad dA (nI ln) (nI cn) (nI tn) F T SF SB LV NR RE ND) (S := Nat) (fun (r : Int32) (u : Nat) => (r, u) = ht_drop tn) (fun (u : Nat) => ht_M ad dA (nI ln) (nI cn) (nI u) F T SF SB LV NR RE ND) := by
  refine ht_MI_of (by decide) (Nat.le_of_ble_eq_true rfl) ?_
  intro p e s m below meth c A hx hb hr hlk hml hown hts hK hA I ls hl
  have hown : s.vm.findClass RX2 = some m.cls := hown
  have hl : lv_has ls 1 [(0, .ref (ad 0))] := hl
  refine lv_aload_n hx hb dX2_dropTree_0 rfl (lv_at hl 0 rfl) ?_
  refine ht_getM hx hb hts hown hK I 4 (by decide) q217 rfl rfl dX2_dropTree_1 ?_
  refine lv_if_ne (tgt := 10) hx hb dX2_dropTree_4 (by decide) (fun c_1 => ?_) (fun c_1 => ?_)
  · have h0 : tn ≠ 0 := fun q => c_1 (by rw [q]; rfl)
    refine lv_aload_n hx hb dX2_dropTree_10 rfl (lv_at hl 0 rfl) ?_
    refine lv_aload_n hx hb dX2_dropTree_11 rfl (lv_at hl 0 rfl) ?_
    refine ht_getM hx hb hts hown hK I 4 (by decide) q217 rfl rfl dX2_dropTree_12 ?_
    refine lv_iconst (v := nI 1) hx hb dX2_dropTree_15 (by decide) ?_
    refine lv_isub hx hb dX2_dropTree_16 ?_
    refine ht_ti (pk_sub (a := tn) (b := 1) (by omega)) ?_
    refine ht_putM (ty := .int) (w3 := ht_M ad dA (nI ln) (nI cn) (nI (tn - 1)) F T SF SB LV NR RE ND) hx hb hts hown hK I 4 (by decide) q217 rfl (by decide +kernel) rfl rfl rfl (Nat.le_of_ble_eq_true rfl) rfl dX2_dropTree_17 (fun H locs I => ?_)
    refine lv_aload_n hx hb dX2_dropTree_20 rfl (lv_at hl 0 rfl) ?_
    refine ht_getM hx hb hts hown hK I 4 (by decide) q217 rfl rfl dX2_dropTree_21 ?_
    exact ht_iret hx hb hr hlk hK I (w2 := fun (u : Nat) => ht_M ad dA (nI ln) (nI cn) (nI u) F T SF SB LV NR RE ND) (tn - 1) (by unfold ht_drop; rw [if_neg h0]) rfl dX2_dropTree_24
  · have h0 : tn = 0 := Decidable.byContradiction (fun q => nI_ne0 (by omega) (by omega) c_1)
    refine lv_bipush (v := (-7)) hx hb dX2_dropTree_7 (by decide) ?_
    exact ht_iret hx hb hr hlk hK I (w2 := fun (u : Nat) => ht_M ad dA (nI ln) (nI cn) (nI u) F T SF SB LV NR RE ND) tn (by unfold ht_drop; rw [if_pos h0, h0]) rfl dX2_dropTree_9
set_option maxHeartbeats 4000000 in
set_option maxRecDepth 100000 in
theorem mt_clear  : ht_MV l D dA yX2_clear (ws_ yX2_clear cX2_clear 1 none) 0 0 [.ref (ad 0)] (ht_M ad dA (nI ln) (nI cn) (nI tn) F T SF SB LV NR RE ND) (S := Unit) (fun (_ : Unit) => True) (fun _ => ht_M ad dA (nI ln) (nI 0) (nI 0) F T SF SB LV NR RE ND) := by
  refine ht_MV_of (by decide) (Nat.le_of_ble_eq_true rfl) ?_
  intro p e s m below meth c A hx hb hr hlk hml hown hts hK hA I ls hl
  have hown : s.vm.findClass RX2 = some m.cls := hown
  have hl : lv_has ls 1 [(0, .ref (ad 0))] := hl
  refine lv_aload_n hx hb dX2_clear_0 rfl (lv_at hl 0 rfl) ?_
  refine lv_iconst (v := nI 0) hx hb dX2_clear_1 (by decide) ?_
  refine ht_putM (ty := .int) (w3 := ht_M ad dA (nI ln) (nI 0) (nI tn) F T SF SB LV NR RE ND) hx hb hts hown hK I 1 (by decide) q214 rfl (by decide +kernel) rfl rfl rfl (Nat.le_of_ble_eq_true rfl) rfl dX2_clear_2 (fun H locs I => ?_)
  refine lv_aload_n hx hb dX2_clear_5 rfl (lv_at hl 0 rfl) ?_
  refine lv_iconst (v := nI 0) hx hb dX2_clear_6 (by decide) ?_
  refine ht_putM (ty := .int) (w3 := ht_M ad dA (nI ln) (nI 0) (nI 0) F T SF SB LV NR RE ND) hx hb hts hown hK I 4 (by decide) q217 rfl (by decide +kernel) rfl rfl rfl (Nat.le_of_ble_eq_true rfl) rfl dX2_clear_7 (fun H locs I => ?_)
  exact ht_vret hx hb hr hlk hK I (w2 := fun _ => ht_M ad dA (nI ln) (nI 0) (nI 0) F T SF SB LV NR RE ND) () trivial rfl dX2_clear_10
set_option maxHeartbeats 4000000 in
set_option maxRecDepth 100000 in
theorem mt_none (t nd : Int32) : ht_MI l D dA yX2_none (ws_ yX2_none cX2_none 3 (some .boolean)) 0 0 [.ref (ad 0), .int t, .int nd] (ht_M ad dA (nI ln) (nI cn) (nI tn) F T SF SB LV NR RE ND) (S := Unit) (fun (r : Int32) (_ : Unit) => r = ht_non tn t nd) (fun _ => ht_M ad dA (nI ln) (nI cn) (nI tn) F T SF SB LV NR RE ND) := by
  refine ht_MI_of (by decide) (Nat.le_of_ble_eq_true rfl) ?_
  intro p e s m below meth c A hx hb hr hlk hml hown hts hK hA I ls hl
  have hown : s.vm.findClass RX2 = some m.cls := hown
  have hl : lv_has ls 3 [(0, .ref (ad 0)), (1, .int t), (2, .int nd)] := hl
  refine lv_iload_n hx hb dX2_none_0 rfl (lv_at hl 1 rfl) ?_
  refine lv_if_lt (tgt := 22) hx hb dX2_none_1 (by decide) (fun c_1 => ?_) (fun c_1 => ?_)
  · refine lv_iconst (v := nI 1) hx hb dX2_none_22 (by decide) ?_
    refine lv_goto (tgt := 27) hx hb dX2_none_23 (by decide) ?_
    exact ht_zret hx hb hr rfl hlk hK I (w2 := fun _ => ht_M ad dA (nI ln) (nI cn) (nI tn) F T SF SB LV NR RE ND) () (by unfold ht_non; rw [if_pos c_1]) rfl dX2_none_27
  · refine lv_iload_n hx hb dX2_none_4 rfl (lv_at hl 1 rfl) ?_
    refine lv_aload_n hx hb dX2_none_5 rfl (lv_at hl 0 rfl) ?_
    refine ht_getM hx hb hts hown hK I 4 (by decide) q217 rfl rfl dX2_none_6 ?_
    refine lv_icmp_ge (tgt := 22) hx hb dX2_none_9 (by decide) (fun c_2 => ?_) (fun c_2 => ?_)
    · refine lv_iconst (v := nI 1) hx hb dX2_none_22 (by decide) ?_
      refine lv_goto (tgt := 27) hx hb dX2_none_23 (by decide) ?_
      exact ht_zret hx hb hr rfl hlk hK I (w2 := fun _ => ht_M ad dA (nI ln) (nI cn) (nI tn) F T SF SB LV NR RE ND) () (by unfold ht_non; rw [if_neg c_1, if_pos c_2]) rfl dX2_none_27
    · refine lv_iload_n hx hb dX2_none_12 rfl (lv_at hl 2 rfl) ?_
      refine lv_if_lt (tgt := 22) hx hb dX2_none_13 (by decide) (fun c_3 => ?_) (fun c_3 => ?_)
      · refine lv_iconst (v := nI 1) hx hb dX2_none_22 (by decide) ?_
        refine lv_goto (tgt := 27) hx hb dX2_none_23 (by decide) ?_
        exact ht_zret hx hb hr rfl hlk hK I (w2 := fun _ => ht_M ad dA (nI ln) (nI cn) (nI tn) F T SF SB LV NR RE ND) () (by unfold ht_non; rw [if_neg c_1, if_neg c_2, if_pos c_3]) rfl dX2_none_27
      · refine lv_iload_n hx hb dX2_none_16 rfl (lv_at hl 2 rfl) ?_
        refine lv_bipush (v := nI 6) hx hb dX2_none_17 (by decide) ?_
        refine lv_icmp_le (tgt := 26) hx hb dX2_none_19 (by decide) (fun c_4 => ?_) (fun c_4 => ?_)
        · refine lv_iconst (v := nI 0) hx hb dX2_none_26 (by decide) ?_
          exact ht_zret hx hb hr rfl hlk hK I (w2 := fun _ => ht_M ad dA (nI ln) (nI cn) (nI tn) F T SF SB LV NR RE ND) () (by unfold ht_non; rw [if_neg c_1, if_neg c_2, if_neg c_3, if_pos ((ht_le6 nd).mp c_4)]) rfl dX2_none_27
        · refine lv_iconst (v := nI 1) hx hb dX2_none_22 (by decide) ?_
          refine lv_goto (tgt := 27) hx hb dX2_none_23 (by decide) ?_
          exact ht_zret hx hb hr rfl hlk hK I (w2 := fun _ => ht_M ad dA (nI ln) (nI cn) (nI tn) F T SF SB LV NR RE ND) () (by unfold ht_non; rw [if_neg c_1, if_neg c_2, if_neg c_3, if_neg (fun q => c_4 ((ht_le6 nd).mpr q))]) rfl dX2_none_27
set_option maxHeartbeats 4000000 in
set_option maxRecDepth 100000 in
theorem mt_feature (t nd : Int32) (htn : tn ≤ 4) : ht_MI l D dA yX2_feature (ws_ yX2_feature cX2_feature 3 (some .int)) 1 22 [.ref (ad 0), .int t, .int nd] (ht_M ad dA (nI ln) (nI cn) (nI tn) F T SF SB LV NR RE ND) (S := Unit) (fun (r : Int32) (_ : Unit) => r = ht_ask SF tn t nd) (fun _ => ht_M ad dA (nI ln) (nI cn) (nI tn) F T SF SB LV NR RE ND) := by
  refine ht_MI_of (by decide) (Nat.le_of_ble_eq_true rfl) ?_
  intro p e s m below meth c A hx hb hr hlk hml hown hts hK hA I ls hl
  have hown : s.vm.findClass RX2 = some m.cls := hown
  have hl : lv_has ls 3 [(0, .ref (ad 0)), (1, .int t), (2, .int nd)] := hl
  refine lv_aload_n hx hb dX2_feature_0 rfl (lv_at hl 0 rfl) ?_
  refine lv_iload_n hx hb dX2_feature_1 rfl (lv_at hl 1 rfl) ?_
  refine lv_iload_n hx hb dX2_feature_2 rfl (lv_at hl 2 rfl) ?_
  refine ht_callVi (As := [.int t, .int nd]) (rest := []) (wr := []) (q0 := 0) (ci := 1) hx hb hml hown hts hK hA I (mt_none l D dA ad ln cn tn F T SF SB LV NR RE ND t nd) (cwV 2 hts (lw_V q317 q319 qs24 q27 q320) rfl rfl rfl (by decide +kernel) (by decide)) rfl rfl [0, 1, 2, 3, 4, 5, 6, 7, 8] [] rfl rfl (by decide) (by decide) (by decide) rfl hl.1 rfl (Nat.le_of_ble_eq_true rfl) dX2_feature_3 (by decide) (fun r u H locs hp I => ?_)
  subst hp
  have I : ht_I D A s.heap (ht_M ad dA (nI ln) (nI cn) (nI tn) F T SF SB LV NR RE ND) H locs := I
  refine lv_if_eq (tgt := 14) hx hb dX2_feature_6 (by decide) (fun c_1 => ?_) (fun c_1 => ?_)
  · obtain ⟨a, b, ha, hb7, rfl, rfl⟩ := ht_non_0 c_1 (by omega)
    refine lv_aload_n hx hb dX2_feature_14 rfl (lv_at hl 0 rfl) ?_
    refine ht_getM hx hb hts hown hK I 5 (by decide) q218 rfl rfl dX2_feature_15 ?_
    refine lv_iload_n hx hb dX2_feature_18 rfl (lv_at hl 1 rfl) ?_
    refine lv_bipush (v := nI 7) hx hb dX2_feature_19 (by decide) ?_
    refine lv_imul hx hb dX2_feature_21 ?_
    refine ht_ti (pk_mul a 7) ?_
    refine lv_iload_n hx hb dX2_feature_22 rfl (lv_at hl 2 rfl) ?_
    refine lv_iadd hx hb dX2_feature_23 ?_
    refine ht_ti (nI_add (a * 7) b) ?_
    refine ht_ald hx hb hK I 3 rfl (by omega) dX2_feature_24 ?_
    exact ht_iret hx hb hr hlk hK I (w2 := fun _ => ht_M ad dA (nI ln) (nI cn) (nI tn) F T SF SB LV NR RE ND) () (by unfold ht_ask; rw [if_pos c_1, nI_clamp (n := a) (by omega), nI_clamp (n := b) (by omega)]) rfl dX2_feature_25
  · refine lv_bipush (v := (-5)) hx hb dX2_feature_9 (by decide) ?_
    refine lv_goto (tgt := 25) hx hb dX2_feature_11 (by decide) ?_
    exact ht_iret hx hb hr hlk hK I (w2 := fun _ => ht_M ad dA (nI ln) (nI cn) (nI tn) F T SF SB LV NR RE ND) () (by unfold ht_ask; rw [if_neg c_1]) rfl dX2_feature_25
set_option maxHeartbeats 4000000 in
set_option maxRecDepth 100000 in
theorem mt_rows (t nd : Int32) (htn : tn ≤ 4) : ht_MI l D dA yX2_rows (ws_ yX2_rows cX2_rows 3 (some .int)) 1 22 [.ref (ad 0), .int t, .int nd] (ht_M ad dA (nI ln) (nI cn) (nI tn) F T SF SB LV NR RE ND) (S := Unit) (fun (r : Int32) (_ : Unit) => r = ht_ask NR tn t nd) (fun _ => ht_M ad dA (nI ln) (nI cn) (nI tn) F T SF SB LV NR RE ND) := by
  refine ht_MI_of (by decide) (Nat.le_of_ble_eq_true rfl) ?_
  intro p e s m below meth c A hx hb hr hlk hml hown hts hK hA I ls hl
  have hown : s.vm.findClass RX2 = some m.cls := hown
  have hl : lv_has ls 3 [(0, .ref (ad 0)), (1, .int t), (2, .int nd)] := hl
  refine lv_aload_n hx hb dX2_rows_0 rfl (lv_at hl 0 rfl) ?_
  refine lv_iload_n hx hb dX2_rows_1 rfl (lv_at hl 1 rfl) ?_
  refine lv_iload_n hx hb dX2_rows_2 rfl (lv_at hl 2 rfl) ?_
  refine ht_callVi (As := [.int t, .int nd]) (rest := []) (wr := []) (q0 := 0) (ci := 1) hx hb hml hown hts hK hA I (mt_none l D dA ad ln cn tn F T SF SB LV NR RE ND t nd) (cwV 2 hts (lw_V q317 q319 qs24 q27 q320) rfl rfl rfl (by decide +kernel) (by decide)) rfl rfl [0, 1, 2, 3, 4, 5, 6, 7, 8] [] rfl rfl (by decide) (by decide) (by decide) rfl hl.1 rfl (Nat.le_of_ble_eq_true rfl) dX2_rows_3 (by decide) (fun r u H locs hp I => ?_)
  subst hp
  have I : ht_I D A s.heap (ht_M ad dA (nI ln) (nI cn) (nI tn) F T SF SB LV NR RE ND) H locs := I
  refine lv_if_eq (tgt := 14) hx hb dX2_rows_6 (by decide) (fun c_1 => ?_) (fun c_1 => ?_)
  · obtain ⟨a, b, ha, hb7, rfl, rfl⟩ := ht_non_0 c_1 (by omega)
    refine lv_aload_n hx hb dX2_rows_14 rfl (lv_at hl 0 rfl) ?_
    refine ht_getM hx hb hts hown hK I 8 (by decide) q221 rfl rfl dX2_rows_15 ?_
    refine lv_iload_n hx hb dX2_rows_18 rfl (lv_at hl 1 rfl) ?_
    refine lv_bipush (v := nI 7) hx hb dX2_rows_19 (by decide) ?_
    refine lv_imul hx hb dX2_rows_21 ?_
    refine ht_ti (pk_mul a 7) ?_
    refine lv_iload_n hx hb dX2_rows_22 rfl (lv_at hl 2 rfl) ?_
    refine lv_iadd hx hb dX2_rows_23 ?_
    refine ht_ti (nI_add (a * 7) b) ?_
    refine ht_ald hx hb hK I 6 rfl (by omega) dX2_rows_24 ?_
    exact ht_iret hx hb hr hlk hK I (w2 := fun _ => ht_M ad dA (nI ln) (nI cn) (nI tn) F T SF SB LV NR RE ND) () (by unfold ht_ask; rw [if_pos c_1, nI_clamp (n := a) (by omega), nI_clamp (n := b) (by omega)]) rfl dX2_rows_25
  · refine lv_bipush (v := (-5)) hx hb dX2_rows_9 (by decide) ?_
    refine lv_goto (tgt := 25) hx hb dX2_rows_11 (by decide) ?_
    exact ht_iret hx hb hr hlk hK I (w2 := fun _ => ht_M ad dA (nI ln) (nI cn) (nI tn) F T SF SB LV NR RE ND) () (by unfold ht_ask; rw [if_neg c_1]) rfl dX2_rows_25
set_option maxHeartbeats 4000000 in
set_option maxRecDepth 100000 in
theorem mt_bound (t nd : Int32) (htn : tn ≤ 4) : ht_MI l D dA yX2_bound (ws_ yX2_bound cX2_bound 4 (some .int)) 1 22 [.ref (ad 0), .int t, .int nd] (ht_M ad dA (nI ln) (nI cn) (nI tn) F T SF SB LV NR RE ND) (S := Unit) (fun (r : Int32) (_ : Unit) => r = ht_bound SF SB tn t nd) (fun _ => ht_M ad dA (nI ln) (nI cn) (nI tn) F T SF SB LV NR RE ND) := by
  refine ht_MI_of (by decide) (Nat.le_of_ble_eq_true rfl) ?_
  intro p e s m below meth c A hx hb hr hlk hml hown hts hK hA I ls hl
  have hown : s.vm.findClass RX2 = some m.cls := hown
  have hl : lv_has ls 4 [(0, .ref (ad 0)), (1, .int t), (2, .int nd)] := hl
  refine lv_aload_n hx hb dX2_bound_0 rfl (lv_at hl 0 rfl) ?_
  refine lv_iload_n hx hb dX2_bound_1 rfl (lv_at hl 1 rfl) ?_
  refine lv_iload_n hx hb dX2_bound_2 rfl (lv_at hl 2 rfl) ?_
  refine ht_callVi (As := [.int t, .int nd]) (rest := []) (wr := []) (q0 := 0) (ci := 1) hx hb hml hown hts hK hA I (mt_none l D dA ad ln cn tn F T SF SB LV NR RE ND t nd) (cwV 2 hts (lw_V q317 q319 qs24 q27 q320) rfl rfl rfl (by decide +kernel) (by decide)) rfl rfl [0, 1, 2, 3, 4, 5, 6, 7, 8] [] rfl rfl (by decide) (by decide) (by decide) rfl hl.1 rfl (Nat.le_of_ble_eq_true rfl) dX2_bound_3 (by decide) (fun r u H locs hp I => ?_)
  subst hp
  have I : ht_I D A s.heap (ht_M ad dA (nI ln) (nI cn) (nI tn) F T SF SB LV NR RE ND) H locs := I
  refine lv_if_eq (tgt := 12) hx hb dX2_bound_6 (by decide) (fun c_1 => ?_) (fun c_1 => ?_)
  · obtain ⟨a, b, ha, hb7, rfl, rfl⟩ := ht_non_0 c_1 (by omega)
    refine lv_aload_n hx hb dX2_bound_12 rfl (lv_at hl 0 rfl) ?_
    refine ht_getM hx hb hts hown hK I 5 (by decide) q218 rfl rfl dX2_bound_13 ?_
    refine lv_iload_n hx hb dX2_bound_16 rfl (lv_at hl 1 rfl) ?_
    refine lv_bipush (v := nI 7) hx hb dX2_bound_17 (by decide) ?_
    refine lv_imul hx hb dX2_bound_19 ?_
    refine ht_ti (pk_mul a 7) ?_
    refine lv_iload_n hx hb dX2_bound_20 rfl (lv_at hl 2 rfl) ?_
    refine lv_iadd hx hb dX2_bound_21 ?_
    refine ht_ti (nI_add (a * 7) b) ?_
    refine ht_ald hx hb hK I 3 rfl (by omega) dX2_bound_22 ?_
    refine lv_istore_n (lv' := [(3, .int (SF (a * 7 + b))), (0, .ref (ad 0)), (1, .int (nI a)), (2, .int (nI b))]) hx hb dX2_bound_23 rfl hl (by decide) rfl (fun ls hl => ?_)
    refine lv_iload_n hx hb dX2_bound_24 rfl (lv_at hl 0 rfl) ?_
    refine lv_if_ge (tgt := 32) hx hb dX2_bound_25 (by decide) (fun c_2 => ?_) (fun c_2 => ?_)
    · refine lv_aload_n hx hb dX2_bound_32 rfl (lv_at hl 1 rfl) ?_
      refine ht_getM hx hb hts hown hK I 6 (by decide) q219 rfl rfl dX2_bound_33 ?_
      refine lv_iload_n hx hb dX2_bound_36 rfl (lv_at hl 2 rfl) ?_
      refine lv_bipush (v := nI 7) hx hb dX2_bound_37 (by decide) ?_
      refine lv_imul hx hb dX2_bound_39 ?_
      refine ht_ti (pk_mul a 7) ?_
      refine lv_iload_n hx hb dX2_bound_40 rfl (lv_at hl 3 rfl) ?_
      refine lv_iadd hx hb dX2_bound_41 ?_
      refine ht_ti (nI_add (a * 7) b) ?_
      refine ht_ald hx hb hK I 4 rfl (by omega) dX2_bound_42 ?_
      exact ht_iret hx hb hr hlk hK I (w2 := fun _ => ht_M ad dA (nI ln) (nI cn) (nI tn) F T SF SB LV NR RE ND) () (by unfold ht_bound; rw [if_pos c_1, nI_clamp (n := a) (by omega), nI_clamp (n := b) (by omega), if_pos c_2]) rfl dX2_bound_43
    · refine lv_iload_n hx hb dX2_bound_28 rfl (lv_at hl 0 rfl) ?_
      refine lv_goto (tgt := 43) hx hb dX2_bound_29 (by decide) ?_
      exact ht_iret hx hb hr hlk hK I (w2 := fun _ => ht_M ad dA (nI ln) (nI cn) (nI tn) F T SF SB LV NR RE ND) () (by unfold ht_bound; rw [if_pos c_1, nI_clamp (n := a) (by omega), nI_clamp (n := b) (by omega), if_neg c_2]) rfl dX2_bound_43
  · refine lv_bipush (v := (-5)) hx hb dX2_bound_9 (by decide) ?_
    exact ht_iret hx hb hr hlk hK I (w2 := fun _ => ht_M ad dA (nI ln) (nI cn) (nI tn) F T SF SB LV NR RE ND) () (by unfold ht_bound; rw [if_neg c_1]) rfl dX2_bound_11
set_option maxHeartbeats 4000000 in
set_option maxRecDepth 100000 in
theorem mt_value (t nd : Int32) (htn : tn ≤ 4) : ht_MI l D dA yX2_value (ws_ yX2_value cX2_value 3 (some .int)) 1 22 [.ref (ad 0), .int t, .int nd] (ht_M ad dA (nI ln) (nI cn) (nI tn) F T SF SB LV NR RE ND) (S := Unit) (fun (r : Int32) (_ : Unit) => r = ht_value SF LV tn t nd) (fun _ => ht_M ad dA (nI ln) (nI cn) (nI tn) F T SF SB LV NR RE ND) := by
  refine ht_MI_of (by decide) (Nat.le_of_ble_eq_true rfl) ?_
  intro p e s m below meth c A hx hb hr hlk hml hown hts hK hA I ls hl
  have hown : s.vm.findClass RX2 = some m.cls := hown
  have hl : lv_has ls 3 [(0, .ref (ad 0)), (1, .int t), (2, .int nd)] := hl
  refine lv_aload_n hx hb dX2_value_0 rfl (lv_at hl 0 rfl) ?_
  refine lv_iload_n hx hb dX2_value_1 rfl (lv_at hl 1 rfl) ?_
  refine lv_iload_n hx hb dX2_value_2 rfl (lv_at hl 2 rfl) ?_
  refine ht_callVi (As := [.int t, .int nd]) (rest := []) (wr := []) (q0 := 0) (ci := 1) hx hb hml hown hts hK hA I (mt_none l D dA ad ln cn tn F T SF SB LV NR RE ND t nd) (cwV 2 hts (lw_V q317 q319 qs24 q27 q320) rfl rfl rfl (by decide +kernel) (by decide)) rfl rfl [0, 1, 2, 3, 4, 5, 6, 7, 8] [] rfl rfl (by decide) (by decide) (by decide) rfl hl.1 rfl (Nat.le_of_ble_eq_true rfl) dX2_value_3 (by decide) (fun r u H locs hp I => ?_)
  subst hp
  have I : ht_I D A s.heap (ht_M ad dA (nI ln) (nI cn) (nI tn) F T SF SB LV NR RE ND) H locs := I
  refine lv_if_ne (tgt := 25) hx hb dX2_value_6 (by decide) (fun c_1 => ?_) (fun c_1 => ?_)
  · refine lv_iconst (v := nI 0) hx hb dX2_value_25 (by decide) ?_
    refine lv_goto (tgt := 40) hx hb dX2_value_26 (by decide) ?_
    exact ht_iret hx hb hr hlk hK I (w2 := fun _ => ht_M ad dA (nI ln) (nI cn) (nI tn) F T SF SB LV NR RE ND) () (by unfold ht_value; rw [if_neg c_1]) rfl dX2_value_40
  · obtain ⟨a, b, ha, hb7, rfl, rfl⟩ := ht_non_0 c_1 (by omega)
    refine lv_aload_n hx hb dX2_value_9 rfl (lv_at hl 0 rfl) ?_
    refine ht_getM hx hb hts hown hK I 5 (by decide) q218 rfl rfl dX2_value_10 ?_
    refine lv_iload_n hx hb dX2_value_13 rfl (lv_at hl 1 rfl) ?_
    refine lv_bipush (v := nI 7) hx hb dX2_value_14 (by decide) ?_
    refine lv_imul hx hb dX2_value_16 ?_
    refine ht_ti (pk_mul a 7) ?_
    refine lv_iload_n hx hb dX2_value_17 rfl (lv_at hl 2 rfl) ?_
    refine lv_iadd hx hb dX2_value_18 ?_
    refine ht_ti (nI_add (a * 7) b) ?_
    refine ht_ald hx hb hK I 3 rfl (by omega) dX2_value_19 ?_
    refine lv_bipush (v := (-6)) hx hb dX2_value_20 (by decide) ?_
    refine lv_icmp_eq (tgt := 29) hx hb dX2_value_22 (by decide) (fun c_2 => ?_) (fun c_2 => ?_)
    · refine lv_aload_n hx hb dX2_value_29 rfl (lv_at hl 0 rfl) ?_
      refine ht_getM hx hb hts hown hK I 7 (by decide) q220 rfl rfl dX2_value_30 ?_
      refine lv_iload_n hx hb dX2_value_33 rfl (lv_at hl 1 rfl) ?_
      refine lv_bipush (v := nI 7) hx hb dX2_value_34 (by decide) ?_
      refine lv_imul hx hb dX2_value_36 ?_
      refine ht_ti (pk_mul a 7) ?_
      refine lv_iload_n hx hb dX2_value_37 rfl (lv_at hl 2 rfl) ?_
      refine lv_iadd hx hb dX2_value_38 ?_
      refine ht_ti (nI_add (a * 7) b) ?_
      refine ht_ald hx hb hK I 5 rfl (by omega) dX2_value_39 ?_
      exact ht_iret hx hb hr hlk hK I (w2 := fun _ => ht_M ad dA (nI ln) (nI cn) (nI tn) F T SF SB LV NR RE ND) () (by unfold ht_value; rw [if_pos c_1, nI_clamp (n := a) (by omega), nI_clamp (n := b) (by omega), if_pos c_2]) rfl dX2_value_40
    · refine lv_iconst (v := nI 0) hx hb dX2_value_25 (by decide) ?_
      refine lv_goto (tgt := 40) hx hb dX2_value_26 (by decide) ?_
      exact ht_iret hx hb hr hlk hK I (w2 := fun _ => ht_M ad dA (nI ln) (nI cn) (nI tn) F T SF SB LV NR RE ND) () (by unfold ht_value; rw [if_pos c_1, nI_clamp (n := a) (by omega), nI_clamp (n := b) (by omega), if_neg c_2]) rfl dX2_value_40
set_option maxHeartbeats 4000000 in
set_option maxRecDepth 100000 in
theorem mt_leafValue (t : Nat) (fe : Int32) (ht : t < 4) : ht_MI l D dA yX2_leafValue (ws_ yX2_leafValue cX2_leafValue 6 (some .int)) 1 22 [.ref (ad 0), .int (nI t), .int fe] (ht_M ad dA (nI ln) (nI cn) (nI tn) F T SF SB LV NR RE ND) (S := Unit) (fun (r : Int32) (_ : Unit) => r = ht_leaf SF SB LV fe t) (fun _ => ht_M ad dA (nI ln) (nI cn) (nI tn) F T SF SB LV NR RE ND) := by
  refine ht_MI_of (by decide) (Nat.le_of_ble_eq_true rfl) ?_
  intro p e s m below meth c A hx hb hr hlk hml hown hts hK hA I ls hl
  have hown : s.vm.findClass RX2 = some m.cls := hown
  have hl : lv_has ls 6 [(0, .ref (ad 0)), (1, .int (nI t)), (2, .int fe)] := hl
  have loop : ∀ (n i nd : Nat), i + n = 2 → (i = 0 ∧ nd = 0 ∨ i = 1 ∧ nd ≤ 2 ∨ i = 2 ∧ nd ≤ 6) → ht_walk SF SB t fe n nd = ht_walk SF SB t fe 2 0 → ∀ (H : Heap) (locs : List Loc), ht_I D A s.heap (ht_M ad dA (nI ln) (nI cn) (nI tn) F T SF SB LV NR RE ND) H locs → ∀ ls : Array Slot, lv_has ls 6 [(4, .int (nI i)), (3, .int (nI nd)), (0, .ref (ad 0)), (1, .int (nI t)), (2, .int fe)] → W p l e (ht_Rm 1 22) s m ([.ref (ad 0), .int (nI t), .int fe] : List Value).toArray below meth c H locs 0 0 (MQ below (va_Qi (fun (r : Int32) (_ : Unit) => r = ht_leaf SF SB LV fe t) (fun u_ t_ => ht_Po D dA A ((fun _ => ht_M ad dA (nI ln) (nI cn) (nI tn) F T SF SB LV NR RE ND) u_) t_) A) ([.ref (ad 0), .int (nI t), .int fe] : List Value).toArray s 0 0 A) (F0 m 5 ls []) := by
    intro n
    induction n with
    | zero =>
      intro i nd hi hn hw H locs I ls hl
      refine lv_iload hx hb dX2_leafValue_5 (lv_at hl 0 rfl) ?_
      refine lv_iconst (v := nI 2) hx hb dX2_leafValue_7 (by decide) ?_
      refine ht_ge (tgt := 76) hx hb dX2_leafValue_8 (by decide) (by omega) (by omega) (fun c_1 => ?_) (fun c_1 => ?_)
      · refine lv_aload_n hx hb dX2_leafValue_76 rfl (lv_at hl 2 rfl) ?_
        refine ht_getM hx hb hts hown hK I 7 (by decide) q220 rfl rfl dX2_leafValue_77 ?_
        refine lv_iload_n hx hb dX2_leafValue_80 rfl (lv_at hl 3 rfl) ?_
        refine lv_bipush (v := nI 7) hx hb dX2_leafValue_81 (by decide) ?_
        refine lv_imul hx hb dX2_leafValue_83 ?_
        refine ht_ti (pk_mul t 7) ?_
        refine lv_iload_n hx hb dX2_leafValue_84 rfl (lv_at hl 1 rfl) ?_
        refine lv_iadd hx hb dX2_leafValue_85 ?_
        refine ht_ti (nI_add (t * 7) nd) ?_
        refine ht_ald hx hb hK I 5 rfl (by omega) dX2_leafValue_86 ?_
        exact ht_iret hx hb hr hlk hK I (w2 := fun _ => ht_M ad dA (nI ln) (nI cn) (nI tn) F T SF SB LV NR RE ND) () (by unfold ht_leaf; rw [← hw]; rfl) rfl dX2_leafValue_87
      · exact absurd c_1 (by omega)
    | succ n ih =>
      intro i nd hi hn hw H locs I ls hl
      refine lv_iload hx hb dX2_leafValue_5 (lv_at hl 0 rfl) ?_
      refine lv_iconst (v := nI 2) hx hb dX2_leafValue_7 (by decide) ?_
      refine ht_ge (tgt := 76) hx hb dX2_leafValue_8 (by decide) (by omega) (by omega) (fun c_2 => ?_) (fun c_2 => ?_)
      · exact absurd c_2 (by omega)
      · refine lv_iload_n hx hb dX2_leafValue_11 rfl (lv_at hl 3 rfl) ?_
        refine lv_bipush (v := nI 7) hx hb dX2_leafValue_12 (by decide) ?_
        refine lv_imul hx hb dX2_leafValue_14 ?_
        refine ht_ti (pk_mul t 7) ?_
        refine lv_iload_n hx hb dX2_leafValue_15 rfl (lv_at hl 1 rfl) ?_
        refine lv_iadd hx hb dX2_leafValue_16 ?_
        refine ht_ti (nI_add (t * 7) nd) ?_
        refine lv_istore (lv' := [(5, .int (nI (t * 7 + nd))), (4, .int (nI i)), (3, .int (nI nd)), (0, .ref (ad 0)), (1, .int (nI t)), (2, .int fe)]) hx hb dX2_leafValue_17 hl (by decide) rfl (fun ls hl => ?_)
        refine lv_iload_n hx hb dX2_leafValue_19 rfl (lv_at hl 2 rfl) ?_
        refine lv_iconst (v := nI 3) hx hb dX2_leafValue_20 (by decide) ?_
        refine ht_ge (tgt := 70) hx hb dX2_leafValue_21 (by decide) (by omega) (by omega) (fun c_3 => ?_) (fun c_3 => ?_)
        · exact absurd c_3 (by omega)
        · refine lv_aload_n hx hb dX2_leafValue_24 rfl (lv_at hl 3 rfl) ?_
          refine ht_getM hx hb hts hown hK I 5 (by decide) q218 rfl rfl dX2_leafValue_25 ?_
          refine lv_iload hx hb dX2_leafValue_28 (lv_at hl 0 rfl) ?_
          refine ht_ald hx hb hK I 3 rfl (by omega) dX2_leafValue_30 ?_
          refine lv_if_lt (tgt := 70) hx hb dX2_leafValue_31 (by decide) (fun c_4 => ?_) (fun c_4 => ?_)
          · refine lv_iinc (v := (nI (i + 1))) (lv' := [(4, .int (nI (i + 1))), (5, .int (nI (t * 7 + nd))), (3, .int (nI nd)), (0, .ref (ad 0)), (1, .int (nI t)), (2, .int fe)]) hx hb dX2_leafValue_70 hl (k := 1) rfl (nI_add i 1) (by decide) rfl (fun ls hl => ?_)
            refine lv_goto (tgt := 5) hx hb dX2_leafValue_73 (by decide) ?_
            exact ih (i + 1) nd (by omega) (by omega) (by rw [← hw]; show _ = ht_walk SF SB t fe n (ht_step SF SB t fe nd); unfold ht_step; rw [if_pos c_4]) _ _ I ls (lv_sub hl [0, 2, 3, 4, 5] rfl)
          · refine lv_aload_n hx hb dX2_leafValue_34 rfl (lv_at hl 3 rfl) ?_
            refine lv_iload_n hx hb dX2_leafValue_35 rfl (lv_at hl 5 rfl) ?_
            refine lv_aload_n hx hb dX2_leafValue_36 rfl (lv_at hl 3 rfl) ?_
            refine ht_getM hx hb hts hown hK I 5 (by decide) q218 rfl rfl dX2_leafValue_37 ?_
            refine lv_iload hx hb dX2_leafValue_40 (lv_at hl 0 rfl) ?_
            refine ht_ald hx hb hK I 3 rfl (by omega) dX2_leafValue_42 ?_
            refine ht_callVi (As := [.int fe, .int (SF (t * 7 + nd))]) (rest := []) (wr := ht_M ad dA (nI ln) (nI cn) (nI tn) F T SF SB LV NR RE ND) (q0 := 0) (ci := 1) hx hb hml hown hts hK hA I (mt_cell l D dA (ad 0) fe (SF (t * 7 + nd))) (cwV 2 hts (lw_V q275 q277 qs18 q27 q278) rfl rfl rfl (by decide +kernel) (by decide)) rfl rfl [] [0, 1, 2, 3, 4, 5, 6, 7, 8] rfl rfl (by decide) (by decide) (by decide) rfl hl.1 rfl (Nat.le_of_ble_eq_true rfl) dX2_leafValue_43 (by decide) (fun r u H locs hp I => ?_)
            subst hp
            have I : ht_I D A s.heap (ht_M ad dA (nI ln) (nI cn) (nI tn) F T SF SB LV NR RE ND) H locs := I
            refine lv_aload_n hx hb dX2_leafValue_46 rfl (lv_at hl 3 rfl) ?_
            refine ht_getM hx hb hts hown hK I 6 (by decide) q219 rfl rfl dX2_leafValue_47 ?_
            refine lv_iload hx hb dX2_leafValue_50 (lv_at hl 0 rfl) ?_
            refine ht_ald hx hb hK I 4 rfl (by omega) dX2_leafValue_52 ?_
            refine lv_icmp_gt (tgt := 64) hx hb dX2_leafValue_53 (by decide) (fun c_5 => ?_) (fun c_5 => ?_)
            · refine lv_iconst (v := nI 2) hx hb dX2_leafValue_64 (by decide) ?_
              refine lv_iload_n hx hb dX2_leafValue_65 rfl (lv_at hl 2 rfl) ?_
              refine lv_imul hx hb dX2_leafValue_66 ?_
              refine ht_ti (pk_mul 2 nd) ?_
              refine lv_iconst (v := nI 2) hx hb dX2_leafValue_67 (by decide) ?_
              refine lv_iadd hx hb dX2_leafValue_68 ?_
              refine ht_ti (nI_add (2 * nd) 2) ?_
              refine lv_istore_n (lv' := [(3, .int (nI (2 * nd + 2))), (5, .int (nI (t * 7 + nd))), (4, .int (nI i)), (0, .ref (ad 0)), (1, .int (nI t)), (2, .int fe)]) hx hb dX2_leafValue_69 rfl hl (by decide) rfl (fun ls hl => ?_)
              refine lv_iinc (v := (nI (i + 1))) (lv' := [(4, .int (nI (i + 1))), (3, .int (nI (2 * nd + 2))), (5, .int (nI (t * 7 + nd))), (0, .ref (ad 0)), (1, .int (nI t)), (2, .int fe)]) hx hb dX2_leafValue_70 hl (k := 2) rfl (nI_add i 1) (by decide) rfl (fun ls hl => ?_)
              refine lv_goto (tgt := 5) hx hb dX2_leafValue_73 (by decide) ?_
              exact ih (i + 1) (2 * nd + 2) (by omega) (by omega) (by rw [← hw]; show _ = ht_walk SF SB t fe n (ht_step SF SB t fe nd); unfold ht_step; rw [if_neg c_4, if_pos c_5]) _ _ I ls (lv_sub hl [0, 1, 3, 4, 5] rfl)
            · refine lv_iconst (v := nI 2) hx hb dX2_leafValue_56 (by decide) ?_
              refine lv_iload_n hx hb dX2_leafValue_57 rfl (lv_at hl 2 rfl) ?_
              refine lv_imul hx hb dX2_leafValue_58 ?_
              refine ht_ti (pk_mul 2 nd) ?_
              refine lv_iconst (v := nI 1) hx hb dX2_leafValue_59 (by decide) ?_
              refine lv_iadd hx hb dX2_leafValue_60 ?_
              refine ht_ti (nI_add (2 * nd) 1) ?_
              refine lv_goto (tgt := 69) hx hb dX2_leafValue_61 (by decide) ?_
              refine lv_istore_n (lv' := [(3, .int (nI (2 * nd + 1))), (5, .int (nI (t * 7 + nd))), (4, .int (nI i)), (0, .ref (ad 0)), (1, .int (nI t)), (2, .int fe)]) hx hb dX2_leafValue_69 rfl hl (by decide) rfl (fun ls hl => ?_)
              refine lv_iinc (v := (nI (i + 1))) (lv' := [(4, .int (nI (i + 1))), (3, .int (nI (2 * nd + 1))), (5, .int (nI (t * 7 + nd))), (0, .ref (ad 0)), (1, .int (nI t)), (2, .int fe)]) hx hb dX2_leafValue_70 hl (k := 2) rfl (nI_add i 1) (by decide) rfl (fun ls hl => ?_)
              refine lv_goto (tgt := 5) hx hb dX2_leafValue_73 (by decide) ?_
              exact ih (i + 1) (2 * nd + 1) (by omega) (by omega) (by rw [← hw]; show _ = ht_walk SF SB t fe n (ht_step SF SB t fe nd); unfold ht_step; rw [if_neg c_4, if_neg c_5]) _ _ I ls (lv_sub hl [0, 1, 3, 4, 5] rfl)
  refine lv_iconst (v := nI 0) hx hb dX2_leafValue_0 (by decide) ?_
  refine lv_istore_n (lv' := [(3, .int (nI 0)), (0, .ref (ad 0)), (1, .int (nI t)), (2, .int fe)]) hx hb dX2_leafValue_1 rfl hl (by decide) rfl (fun ls hl => ?_)
  refine lv_iconst (v := nI 0) hx hb dX2_leafValue_2 (by decide) ?_
  refine lv_istore (lv' := [(4, .int (nI 0)), (3, .int (nI 0)), (0, .ref (ad 0)), (1, .int (nI t)), (2, .int fe)]) hx hb dX2_leafValue_3 hl (by decide) rfl (fun ls hl => ?_)
  exact loop 2 0 0 (by omega) (by omega) rfl _ _ I ls (lv_sub hl [0, 1, 2, 3, 4] rfl)
set_option maxHeartbeats 4000000 in
set_option maxRecDepth 100000 in
theorem mt_predict (fe : Int32) (htn : tn ≤ 4) : ht_MI l D dA yX2_predict (ws_ yX2_predict cX2_predict 5 (some .int)) 2 47 [.ref (ad 0), .int fe] (ht_M ad dA (nI ln) (nI cn) (nI tn) F T SF SB LV NR RE ND) (S := Unit) (fun (r : Int32) (_ : Unit) => r = ht_pred SF SB LV fe tn) (fun _ => ht_M ad dA (nI ln) (nI cn) (nI tn) F T SF SB LV NR RE ND) := by
  refine ht_MI_of (by decide) (Nat.le_of_ble_eq_true rfl) ?_
  intro p e s m below meth c A hx hb hr hlk hml hown hts hK hA I ls hl
  have hown : s.vm.findClass RX2 = some m.cls := hown
  have hl : lv_has ls 5 [(0, .ref (ad 0)), (1, .int fe)] := hl
  have loop : ∀ (n t : Nat), t + n = tn → ∀ (H : Heap) (locs : List Loc), ht_I D A s.heap (ht_M ad dA (nI ln) (nI cn) (nI tn) F T SF SB LV NR RE ND) H locs → ∀ ls : Array Slot, lv_has ls 5 [(3, .int (nI t)), (2, .int (ht_pred SF SB LV fe t)), (0, .ref (ad 0)), (1, .int fe)] → W p l e (ht_Rm 2 47) s m ([.ref (ad 0), .int fe] : List Value).toArray below meth c H locs 0 0 (MQ below (va_Qi (fun (r : Int32) (_ : Unit) => r = ht_pred SF SB LV fe tn) (fun u_ t_ => ht_Po D dA A ((fun _ => ht_M ad dA (nI ln) (nI cn) (nI tn) F T SF SB LV NR RE ND) u_) t_) A) ([.ref (ad 0), .int fe] : List Value).toArray s 0 0 A) (F0 m 4 ls []) := by
    intro n
    induction n with
    | zero =>
      intro t hi H locs I ls hl
      refine lv_iload_n hx hb dX2_predict_4 rfl (lv_at hl 0 rfl) ?_
      refine lv_aload_n hx hb dX2_predict_5 rfl (lv_at hl 2 rfl) ?_
      refine ht_getM hx hb hts hown hK I 4 (by decide) q217 rfl rfl dX2_predict_6 ?_
      refine ht_ge (tgt := 31) hx hb dX2_predict_9 (by decide) (by omega) (by omega) (fun c_1 => ?_) (fun c_1 => ?_)
      · refine lv_iload_n hx hb dX2_predict_31 rfl (lv_at hl 1 rfl) ?_
        exact ht_iret hx hb hr hlk hK I (w2 := fun _ => ht_M ad dA (nI ln) (nI cn) (nI tn) F T SF SB LV NR RE ND) () (by rw [show t = tn by omega]) rfl dX2_predict_32
      · exact absurd c_1 (by omega)
    | succ n ih =>
      intro t hi H locs I ls hl
      refine lv_iload_n hx hb dX2_predict_4 rfl (lv_at hl 0 rfl) ?_
      refine lv_aload_n hx hb dX2_predict_5 rfl (lv_at hl 2 rfl) ?_
      refine ht_getM hx hb hts hown hK I 4 (by decide) q217 rfl rfl dX2_predict_6 ?_
      refine ht_ge (tgt := 31) hx hb dX2_predict_9 (by decide) (by omega) (by omega) (fun c_2 => ?_) (fun c_2 => ?_)
      · exact absurd c_2 (by omega)
      · refine lv_aload_n hx hb dX2_predict_12 rfl (lv_at hl 2 rfl) ?_
        refine lv_iload_n hx hb dX2_predict_13 rfl (lv_at hl 0 rfl) ?_
        refine lv_iload_n hx hb dX2_predict_14 rfl (lv_at hl 3 rfl) ?_
        refine ht_callVi (As := [.int (nI t), .int fe]) (rest := []) (wr := []) (q0 := 0) (ci := 1) hx hb hml hown hts hK hA I (mt_leafValue l D dA ad ln cn tn F T SF SB LV NR RE ND t fe (by omega)) (cwV 2 hts (lw_V q271 q273 qs17 q27 q274) rfl rfl rfl (by decide +kernel) (by decide)) rfl rfl [0, 1, 2, 3, 4, 5, 6, 7, 8] [] rfl rfl (by decide) (by decide) (by decide) rfl hl.1 rfl (Nat.le_of_ble_eq_true rfl) dX2_predict_15 (by decide) (fun r u H locs hp I => ?_)
        subst hp
        have I : ht_I D A s.heap (ht_M ad dA (nI ln) (nI cn) (nI tn) F T SF SB LV NR RE ND) H locs := I
        refine lv_istore (lv' := [(4, .int (ht_leaf SF SB LV fe t)), (3, .int (nI t)), (2, .int (ht_pred SF SB LV fe t)), (0, .ref (ad 0)), (1, .int fe)]) hx hb dX2_predict_18 hl (by decide) rfl (fun ls hl => ?_)
        refine lv_iload_n hx hb dX2_predict_20 rfl (lv_at hl 2 rfl) ?_
        refine lv_iload hx hb dX2_predict_21 (lv_at hl 0 rfl) ?_
        refine lv_iadd hx hb dX2_predict_23 ?_
        refine lv_istore_n (lv' := [(2, .int ((ht_pred SF SB LV fe t) + (ht_leaf SF SB LV fe t))), (4, .int (ht_leaf SF SB LV fe t)), (3, .int (nI t)), (0, .ref (ad 0)), (1, .int fe)]) hx hb dX2_predict_24 rfl hl (by decide) rfl (fun ls hl => ?_)
        refine lv_iinc (v := (nI (t + 1))) (lv' := [(3, .int (nI (t + 1))), (2, .int ((ht_pred SF SB LV fe t) + (ht_leaf SF SB LV fe t))), (4, .int (ht_leaf SF SB LV fe t)), (0, .ref (ad 0)), (1, .int fe)]) hx hb dX2_predict_25 hl (k := 2) rfl (nI_add t 1) (by decide) rfl (fun ls hl => ?_)
        refine lv_goto (tgt := 4) hx hb dX2_predict_28 (by decide) ?_
        exact ih (t + 1) (by omega) _ _ I ls (lv_sub hl [0, 1, 3, 4] rfl)
  refine lv_iconst (v := nI 0) hx hb dX2_predict_0 (by decide) ?_
  refine lv_istore_n (lv' := [(2, .int (nI 0)), (0, .ref (ad 0)), (1, .int fe)]) hx hb dX2_predict_1 rfl hl (by decide) rfl (fun ls hl => ?_)
  refine lv_iconst (v := nI 0) hx hb dX2_predict_2 (by decide) ?_
  refine lv_istore_n (lv' := [(3, .int (nI 0)), (2, .int (nI 0)), (0, .ref (ad 0)), (1, .int fe)]) hx hb dX2_predict_3 rfl hl (by decide) rfl (fun ls hl => ?_)
  exact loop tn 0 (by omega) _ _ I ls (lv_sub hl [0, 1, 2, 3] rfl)
set_option maxHeartbeats 4000000 in
set_option maxRecDepth 100000 in
theorem mt_rest (i : Int32) (htn : tn ≤ 4) (hcn : cn ≤ 24) : ht_MI l D dA yX2_rest (ws_ yX2_rest cX2_rest 2 (some .int)) 3 71 [.ref (ad 0), .int i] (ht_M ad dA (nI ln) (nI cn) (nI tn) F T SF SB LV NR RE ND) (S := Unit) (fun (r : Int32) (_ : Unit) => r = ht_restq SF SB LV F T cn tn i) (fun _ => ht_M ad dA (nI ln) (nI cn) (nI tn) F T SF SB LV NR RE ND) := by
  refine ht_MI_of (by decide) (Nat.le_of_ble_eq_true rfl) ?_
  intro p e s m below meth c A hx hb hr hlk hml hown hts hK hA I ls hl
  have hown : s.vm.findClass RX2 = some m.cls := hown
  have hl : lv_has ls 2 [(0, .ref (ad 0)), (1, .int i)] := hl
  refine lv_iload_n hx hb dX2_rest_0 rfl (lv_at hl 1 rfl) ?_
  refine lv_if_lt (tgt := 12) hx hb dX2_rest_1 (by decide) (fun c_1 => ?_) (fun c_1 => ?_)
  · refine lv_iconst (v := nI 0) hx hb dX2_rest_12 (by decide) ?_
    exact ht_iret hx hb hr hlk hK I (w2 := fun _ => ht_M ad dA (nI ln) (nI cn) (nI tn) F T SF SB LV NR RE ND) () (by unfold ht_restq; rw [if_pos c_1]) rfl dX2_rest_13
  · refine lv_iload_n hx hb dX2_rest_4 rfl (lv_at hl 1 rfl) ?_
    refine lv_aload_n hx hb dX2_rest_5 rfl (lv_at hl 0 rfl) ?_
    refine ht_getM hx hb hts hown hK I 1 (by decide) q214 rfl rfl dX2_rest_6 ?_
    refine lv_icmp_lt (tgt := 14) hx hb dX2_rest_9 (by decide) (fun c_2 => ?_) (fun c_2 => ?_)
    · obtain ⟨j, hj, rfl⟩ := ht_idx c_1 c_2 (by omega)
      refine lv_aload_n hx hb dX2_rest_14 rfl (lv_at hl 0 rfl) ?_
      refine ht_getM hx hb hts hown hK I 3 (by decide) q216 rfl rfl dX2_rest_15 ?_
      refine lv_iload_n hx hb dX2_rest_18 rfl (lv_at hl 1 rfl) ?_
      refine ht_ald hx hb hK I 2 rfl (by omega) dX2_rest_19 ?_
      refine lv_aload_n hx hb dX2_rest_20 rfl (lv_at hl 0 rfl) ?_
      refine lv_aload_n hx hb dX2_rest_21 rfl (lv_at hl 0 rfl) ?_
      refine ht_getM hx hb hts hown hK I 2 (by decide) q215 rfl rfl dX2_rest_22 ?_
      refine lv_iload_n hx hb dX2_rest_25 rfl (lv_at hl 1 rfl) ?_
      refine ht_ald hx hb hK I 1 rfl (by omega) dX2_rest_26 ?_
      refine ht_callVi (As := [.int (F j)]) (rest := [.int (T j)]) (wr := []) (q0 := 0) (ci := 1) hx hb hml hown hts hK hA I (mt_predict l D dA ad ln cn tn F T SF SB LV NR RE ND (F j) htn) (cwV 1 hts (lw_V q267 q268 q269 q27 q270) rfl rfl rfl (by decide +kernel) (by decide)) rfl rfl [0, 1, 2, 3, 4, 5, 6, 7, 8] [] rfl rfl (by decide) (by decide) (by decide) rfl hl.1 rfl (Nat.le_of_ble_eq_true rfl) dX2_rest_27 (by decide) (fun r u H locs hp I => ?_)
      subst hp
      have I : ht_I D A s.heap (ht_M ad dA (nI ln) (nI cn) (nI tn) F T SF SB LV NR RE ND) H locs := I
      refine lv_isub hx hb dX2_rest_30 ?_
      exact ht_iret hx hb hr hlk hK I (w2 := fun _ => ht_M ad dA (nI ln) (nI cn) (nI tn) F T SF SB LV NR RE ND) () (by unfold ht_restq; rw [if_neg c_1, if_pos c_2, nI_clamp (by omega)]; rfl) rfl dX2_rest_31
    · refine lv_iconst (v := nI 0) hx hb dX2_rest_12 (by decide) ?_
      exact ht_iret hx hb hr hlk hK I (w2 := fun _ => ht_M ad dA (nI ln) (nI cn) (nI tn) F T SF SB LV NR RE ND) () (by unfold ht_restq; rw [if_neg c_1, if_neg c_2]) rfl dX2_rest_13
set_option maxHeartbeats 4000000 in
set_option maxRecDepth 100000 in
theorem mt_loss (htn : tn ≤ 4) (hcn : cn ≤ 24) : ht_MI l D dA yX2_loss (ws_ yX2_loss cX2_loss 4 (some .int)) 4 92 [.ref (ad 0)] (ht_M ad dA (nI ln) (nI cn) (nI tn) F T SF SB LV NR RE ND) (S := Unit) (fun (r : Int32) (_ : Unit) => r = ht_loss SF SB LV F T tn cn) (fun _ => ht_M ad dA (nI ln) (nI cn) (nI tn) F T SF SB LV NR RE ND) := by
  refine ht_MI_of (by decide) (Nat.le_of_ble_eq_true rfl) ?_
  intro p e s m below meth c A hx hb hr hlk hml hown hts hK hA I ls hl
  have hown : s.vm.findClass RX2 = some m.cls := hown
  have hl : lv_has ls 4 [(0, .ref (ad 0))] := hl
  have loop : ∀ (n i : Nat), i + n = cn → ∀ (H : Heap) (locs : List Loc), ht_I D A s.heap (ht_M ad dA (nI ln) (nI cn) (nI tn) F T SF SB LV NR RE ND) H locs → ∀ ls : Array Slot, lv_has ls 4 [(2, .int (nI i)), (1, .int (ht_loss SF SB LV F T tn i)), (0, .ref (ad 0))] → W p l e (ht_Rm 4 92) s m ([.ref (ad 0)] : List Value).toArray below meth c H locs 0 0 (MQ below (va_Qi (fun (r : Int32) (_ : Unit) => r = ht_loss SF SB LV F T tn cn) (fun u_ t_ => ht_Po D dA A ((fun _ => ht_M ad dA (nI ln) (nI cn) (nI tn) F T SF SB LV NR RE ND) u_) t_) A) ([.ref (ad 0)] : List Value).toArray s 0 0 A) (F0 m 4 ls []) := by
    intro n
    induction n with
    | zero =>
      intro i hi H locs I ls hl
      refine lv_iload_n hx hb dX2_loss_4 rfl (lv_at hl 0 rfl) ?_
      refine lv_aload_n hx hb dX2_loss_5 rfl (lv_at hl 2 rfl) ?_
      refine ht_getM hx hb hts hown hK I 1 (by decide) q214 rfl rfl dX2_loss_6 ?_
      refine ht_ge (tgt := 30) hx hb dX2_loss_9 (by decide) (by omega) (by omega) (fun c_1 => ?_) (fun c_1 => ?_)
      · refine lv_iload_n hx hb dX2_loss_30 rfl (lv_at hl 1 rfl) ?_
        exact ht_iret hx hb hr hlk hK I (w2 := fun _ => ht_M ad dA (nI ln) (nI cn) (nI tn) F T SF SB LV NR RE ND) () (by rw [show i = cn by omega]) rfl dX2_loss_31
      · exact absurd c_1 (by omega)
    | succ n ih =>
      intro i hi H locs I ls hl
      refine lv_iload_n hx hb dX2_loss_4 rfl (lv_at hl 0 rfl) ?_
      refine lv_aload_n hx hb dX2_loss_5 rfl (lv_at hl 2 rfl) ?_
      refine ht_getM hx hb hts hown hK I 1 (by decide) q214 rfl rfl dX2_loss_6 ?_
      refine ht_ge (tgt := 30) hx hb dX2_loss_9 (by decide) (by omega) (by omega) (fun c_2 => ?_) (fun c_2 => ?_)
      · exact absurd c_2 (by omega)
      · refine lv_aload_n hx hb dX2_loss_12 rfl (lv_at hl 2 rfl) ?_
        refine lv_iload_n hx hb dX2_loss_13 rfl (lv_at hl 0 rfl) ?_
        refine ht_callVi (As := [.int (nI i)]) (rest := []) (wr := []) (q0 := 0) (ci := 1) hx hb hml hown hts hK hA I (mt_rest l D dA ad ln cn tn F T SF SB LV NR RE ND (nI i) htn hcn) (cwV 1 hts (lw_V q263 q264 q265 q27 q266) rfl rfl rfl (by decide +kernel) (by decide)) rfl rfl [0, 1, 2, 3, 4, 5, 6, 7, 8] [] rfl rfl (by decide) (by decide) (by decide) rfl hl.1 rfl (Nat.le_of_ble_eq_true rfl) dX2_loss_14 (by decide) (fun r u H locs hp I => ?_)
        rw [ht_restq_in (by omega) (by omega)] at hp
        subst hp
        have I : ht_I D A s.heap (ht_M ad dA (nI ln) (nI cn) (nI tn) F T SF SB LV NR RE ND) H locs := I
        refine lv_istore_n (lv' := [(3, .int (ht_rest SF SB LV F T tn i)), (2, .int (nI i)), (1, .int (ht_loss SF SB LV F T tn i)), (0, .ref (ad 0))]) hx hb dX2_loss_17 rfl hl (by decide) rfl (fun ls hl => ?_)
        refine lv_iload_n hx hb dX2_loss_18 rfl (lv_at hl 2 rfl) ?_
        refine lv_iload_n hx hb dX2_loss_19 rfl (lv_at hl 0 rfl) ?_
        refine lv_iload_n hx hb dX2_loss_20 rfl (lv_at hl 0 rfl) ?_
        refine lv_imul hx hb dX2_loss_21 ?_
        refine lv_iadd hx hb dX2_loss_22 ?_
        refine lv_istore_n (lv' := [(1, .int ((ht_loss SF SB LV F T tn i) + ((ht_rest SF SB LV F T tn i) * (ht_rest SF SB LV F T tn i)))), (3, .int (ht_rest SF SB LV F T tn i)), (2, .int (nI i)), (0, .ref (ad 0))]) hx hb dX2_loss_23 rfl hl (by decide) rfl (fun ls hl => ?_)
        refine lv_iinc (v := (nI (i + 1))) (lv' := [(2, .int (nI (i + 1))), (1, .int ((ht_loss SF SB LV F T tn i) + ((ht_rest SF SB LV F T tn i) * (ht_rest SF SB LV F T tn i)))), (3, .int (ht_rest SF SB LV F T tn i)), (0, .ref (ad 0))]) hx hb dX2_loss_24 hl (k := 2) rfl (nI_add i 1) (by decide) rfl (fun ls hl => ?_)
        refine lv_goto (tgt := 4) hx hb dX2_loss_27 (by decide) ?_
        exact ih (i + 1) (by omega) _ _ I ls (lv_sub hl [0, 1, 3] rfl)
  refine lv_iconst (v := nI 0) hx hb dX2_loss_0 (by decide) ?_
  refine lv_istore_n (lv' := [(1, .int (nI 0)), (0, .ref (ad 0))]) hx hb dX2_loss_1 rfl hl (by decide) rfl (fun ls hl => ?_)
  refine lv_iconst (v := nI 0) hx hb dX2_loss_2 (by decide) ?_
  refine lv_istore_n (lv' := [(2, .int (nI 0)), (1, .int (nI 0)), (0, .ref (ad 0))]) hx hb dX2_loss_3 rfl hl (by decide) rfl (fun ls hl => ?_)
  exact loop cn 0 (by omega) _ _ I ls (lv_sub hl [0, 1, 2] rfl)
set_option maxHeartbeats 4000000 in
set_option maxRecDepth 100000 in
theorem mt_rowsOf (nd : Nat) (f b : Int32) (hcn : cn ≤ 24) (hnd : nd < 7) : ht_MI l D dA yX2_rowsOf (ws_ yX2_rowsOf cX2_rowsOf 6 (some .int)) 1 22 [.ref (ad 0), .int (nI nd), .int f, .int b] (ht_M ad dA (nI ln) (nI cn) (nI tn) F T SF SB LV NR RE ND) (S := Unit) (fun (r : Int32) (_ : Unit) => r = nI (ht_cnt (ht_L F ND nd f b) cn)) (fun _ => ht_M ad dA (nI ln) (nI cn) (nI tn) F T SF SB LV NR RE ND) := by
  refine ht_MI_of (by decide) (Nat.le_of_ble_eq_true rfl) ?_
  intro p e s m below meth c A hx hb hr hlk hml hown hts hK hA I ls hl
  have hown : s.vm.findClass RX2 = some m.cls := hown
  have hl : lv_has ls 6 [(0, .ref (ad 0)), (1, .int (nI nd)), (2, .int f), (3, .int b)] := hl
  have loop : ∀ (n i : Nat), i + n = cn → ∀ (H : Heap) (locs : List Loc), ht_I D A s.heap (ht_M ad dA (nI ln) (nI cn) (nI tn) F T SF SB LV NR RE ND) H locs → ∀ ls : Array Slot, lv_has ls 6 [(5, .int (nI i)), (4, .int (nI (ht_cnt (ht_L F ND nd f b) i))), (0, .ref (ad 0)), (1, .int (nI nd)), (2, .int f), (3, .int b)] → W p l e (ht_Rm 1 22) s m ([.ref (ad 0), .int (nI nd), .int f, .int b] : List Value).toArray below meth c H locs 0 0 (MQ below (va_Qi (fun (r : Int32) (_ : Unit) => r = nI (ht_cnt (ht_L F ND nd f b) cn)) (fun u_ t_ => ht_Po D dA A ((fun _ => ht_M ad dA (nI ln) (nI cn) (nI tn) F T SF SB LV NR RE ND) u_) t_) A) ([.ref (ad 0), .int (nI nd), .int f, .int b] : List Value).toArray s 0 0 A) (F0 m 6 ls []) := by
    intro n
    induction n with
    | zero =>
      intro i hi H locs I ls hl
      refine lv_iload hx hb dX2_rowsOf_6 (lv_at hl 0 rfl) ?_
      refine lv_aload_n hx hb dX2_rowsOf_8 rfl (lv_at hl 2 rfl) ?_
      refine ht_getM hx hb hts hown hK I 1 (by decide) q214 rfl rfl dX2_rowsOf_9 ?_
      refine ht_ge (tgt := 51) hx hb dX2_rowsOf_12 (by decide) (by omega) (by omega) (fun c_1 => ?_) (fun c_1 => ?_)
      · refine lv_iload hx hb dX2_rowsOf_51 (lv_at hl 1 rfl) ?_
        exact ht_iret hx hb hr hlk hK I (w2 := fun _ => ht_M ad dA (nI ln) (nI cn) (nI tn) F T SF SB LV NR RE ND) () (by rw [show i = cn by omega]) rfl dX2_rowsOf_53
      · exact absurd c_1 (by omega)
    | succ n ih =>
      intro i hi H locs I ls hl
      refine lv_iload hx hb dX2_rowsOf_6 (lv_at hl 0 rfl) ?_
      refine lv_aload_n hx hb dX2_rowsOf_8 rfl (lv_at hl 2 rfl) ?_
      refine ht_getM hx hb hts hown hK I 1 (by decide) q214 rfl rfl dX2_rowsOf_9 ?_
      refine ht_ge (tgt := 51) hx hb dX2_rowsOf_12 (by decide) (by omega) (by omega) (fun c_2 => ?_) (fun c_2 => ?_)
      · exact absurd c_2 (by omega)
      · refine lv_aload_n hx hb dX2_rowsOf_15 rfl (lv_at hl 2 rfl) ?_
        refine ht_getM hx hb hts hown hK I 10 (by decide) q223 rfl rfl dX2_rowsOf_16 ?_
        refine lv_iload hx hb dX2_rowsOf_19 (lv_at hl 0 rfl) ?_
        refine ht_ald hx hb hK I 8 rfl (by omega) dX2_rowsOf_21 ?_
        refine lv_iload_n hx hb dX2_rowsOf_22 rfl (lv_at hl 3 rfl) ?_
        refine lv_icmp_ne (tgt := 45) hx hb dX2_rowsOf_23 (by decide) (fun c_3 => ?_) (fun c_3 => ?_)
        · have e_ : ht_cnt (ht_L F ND nd f b) (i + 1) = ht_cnt (ht_L F ND nd f b) i := if_neg (ht_L_0 (Or.inl c_3))
          refine lv_iinc (v := (nI (i + 1))) (lv' := [(5, .int (nI (i + 1))), (4, .int (nI (ht_cnt (ht_L F ND nd f b) i))), (0, .ref (ad 0)), (1, .int (nI nd)), (2, .int f), (3, .int b)]) hx hb dX2_rowsOf_45 hl (k := 0) rfl (nI_add i 1) (by decide) rfl (fun ls hl => ?_)
          refine lv_goto (tgt := 6) hx hb dX2_rowsOf_48 (by decide) ?_
          rw [← e_] at hl
          exact ih (i + 1) (by omega) _ _ I ls (lv_sub hl [0, 1, 2, 3, 4, 5] rfl)
        · refine lv_aload_n hx hb dX2_rowsOf_26 rfl (lv_at hl 2 rfl) ?_
          refine lv_aload_n hx hb dX2_rowsOf_27 rfl (lv_at hl 2 rfl) ?_
          refine ht_getM hx hb hts hown hK I 2 (by decide) q215 rfl rfl dX2_rowsOf_28 ?_
          refine lv_iload hx hb dX2_rowsOf_31 (lv_at hl 0 rfl) ?_
          refine ht_ald hx hb hK I 1 rfl (by omega) dX2_rowsOf_33 ?_
          refine lv_iload_n hx hb dX2_rowsOf_34 rfl (lv_at hl 4 rfl) ?_
          refine ht_callVi (As := [.int (F i), .int f]) (rest := []) (wr := ht_M ad dA (nI ln) (nI cn) (nI tn) F T SF SB LV NR RE ND) (q0 := 0) (ci := 1) hx hb hml hown hts hK hA I (mt_cell l D dA (ad 0) (F i) f) (cwV 2 hts (lw_V q275 q277 qs18 q27 q278) rfl rfl rfl (by decide +kernel) (by decide)) rfl rfl [] [0, 1, 2, 3, 4, 5, 6, 7, 8] rfl rfl (by decide) (by decide) (by decide) rfl hl.1 rfl (Nat.le_of_ble_eq_true rfl) dX2_rowsOf_35 (by decide) (fun r u H locs hp I => ?_)
          subst hp
          have I : ht_I D A s.heap (ht_M ad dA (nI ln) (nI cn) (nI tn) F T SF SB LV NR RE ND) H locs := I
          refine lv_iload_n hx hb dX2_rowsOf_38 rfl (lv_at hl 5 rfl) ?_
          refine lv_icmp_gt (tgt := 45) hx hb dX2_rowsOf_39 (by decide) (fun c_4 => ?_) (fun c_4 => ?_)
          · have e_ : ht_cnt (ht_L F ND nd f b) (i + 1) = ht_cnt (ht_L F ND nd f b) i := if_neg (ht_L_0 (Or.inr c_4))
            refine lv_iinc (v := (nI (i + 1))) (lv' := [(5, .int (nI (i + 1))), (4, .int (nI (ht_cnt (ht_L F ND nd f b) i))), (0, .ref (ad 0)), (1, .int (nI nd)), (2, .int f), (3, .int b)]) hx hb dX2_rowsOf_45 hl (k := 0) rfl (nI_add i 1) (by decide) rfl (fun ls hl => ?_)
            refine lv_goto (tgt := 6) hx hb dX2_rowsOf_48 (by decide) ?_
            rw [← e_] at hl
            exact ih (i + 1) (by omega) _ _ I ls (lv_sub hl [0, 1, 2, 3, 4, 5] rfl)
          · have e_ : ht_cnt (ht_L F ND nd f b) (i + 1) = ht_cnt (ht_L F ND nd f b) i + 1 := if_pos (ht_L_1 c_3 c_4)
            refine lv_iinc (v := (nI (ht_cnt (ht_L F ND nd f b) i + 1))) (lv' := [(4, .int (nI (ht_cnt (ht_L F ND nd f b) i + 1))), (5, .int (nI i)), (0, .ref (ad 0)), (1, .int (nI nd)), (2, .int f), (3, .int b)]) hx hb dX2_rowsOf_42 hl (k := 1) rfl (nI_add (ht_cnt (ht_L F ND nd f b) i) 1) (by decide) rfl (fun ls hl => ?_)
            refine lv_iinc (v := (nI (i + 1))) (lv' := [(5, .int (nI (i + 1))), (4, .int (nI (ht_cnt (ht_L F ND nd f b) i + 1))), (0, .ref (ad 0)), (1, .int (nI nd)), (2, .int f), (3, .int b)]) hx hb dX2_rowsOf_45 hl (k := 1) rfl (nI_add i 1) (by decide) rfl (fun ls hl => ?_)
            refine lv_goto (tgt := 6) hx hb dX2_rowsOf_48 (by decide) ?_
            rw [← e_] at hl
            exact ih (i + 1) (by omega) _ _ I ls (lv_sub hl [0, 1, 2, 3, 4, 5] rfl)
  refine lv_iconst (v := nI 0) hx hb dX2_rowsOf_0 (by decide) ?_
  refine lv_istore (lv' := [(4, .int (nI 0)), (0, .ref (ad 0)), (1, .int (nI nd)), (2, .int f), (3, .int b)]) hx hb dX2_rowsOf_1 hl (by decide) rfl (fun ls hl => ?_)
  refine lv_iconst (v := nI 0) hx hb dX2_rowsOf_3 (by decide) ?_
  refine lv_istore (lv' := [(5, .int (nI 0)), (4, .int (nI 0)), (0, .ref (ad 0)), (1, .int (nI nd)), (2, .int f), (3, .int b)]) hx hb dX2_rowsOf_4 hl (by decide) rfl (fun ls hl => ?_)
  exact loop cn 0 (by omega) _ _ I ls (lv_sub hl [0, 1, 2, 3, 4, 5] rfl)
set_option maxHeartbeats 4000000 in
set_option maxRecDepth 100000 in
theorem mt_sumOf (nd : Nat) (f b : Int32) (hcn : cn ≤ 24) (hnd : nd < 7) : ht_ML l D dA yX2_sumOf (ws_ yX2_sumOf cX2_sumOf 7 (some .long)) 1 22 [.ref (ad 0), .int (nI nd), .int f, .int b] (ht_M ad dA (nI ln) (nI cn) (nI tn) F T SF SB LV NR RE ND) (S := Unit) (fun (r : Int64) (_ : Unit) => r = Int64.ofInt (ht_sum (ht_L F ND nd f b) RE cn)) (fun _ => ht_M ad dA (nI ln) (nI cn) (nI tn) F T SF SB LV NR RE ND) := by
  refine ht_ML_of (by decide) (Nat.le_of_ble_eq_true rfl) ?_
  intro p e s m below meth c A hx hb hr hlk hml hown hts hK hA I ls hl
  have hown : s.vm.findClass RX2 = some m.cls := hown
  have hl : lv_has ls 7 [(0, .ref (ad 0)), (1, .int (nI nd)), (2, .int f), (3, .int b)] := hl
  have loop : ∀ (n i : Nat), i + n = cn → ∀ (H : Heap) (locs : List Loc), ht_I D A s.heap (ht_M ad dA (nI ln) (nI cn) (nI tn) F T SF SB LV NR RE ND) H locs → ∀ ls : Array Slot, lv_has ls 7 [(6, .int (nI i)), (4, .long (Int64.ofInt (ht_sum (ht_L F ND nd f b) RE i))), (0, .ref (ad 0)), (1, .int (nI nd)), (2, .int f), (3, .int b)] → W p l e (ht_Rm 1 22) s m ([.ref (ad 0), .int (nI nd), .int f, .int b] : List Value).toArray below meth c H locs 0 0 (MQ below (va_Ql (fun (r : Int64) (_ : Unit) => r = Int64.ofInt (ht_sum (ht_L F ND nd f b) RE cn)) (fun u_ t_ => ht_Po D dA A ((fun _ => ht_M ad dA (nI ln) (nI cn) (nI tn) F T SF SB LV NR RE ND) u_) t_) A) ([.ref (ad 0), .int (nI nd), .int f, .int b] : List Value).toArray s 0 0 A) (F0 m 6 ls []) := by
    intro n
    induction n with
    | zero =>
      intro i hi H locs I ls hl
      refine lv_iload hx hb dX2_sumOf_6 (lv_at hl 0 rfl) ?_
      refine lv_aload_n hx hb dX2_sumOf_8 rfl (lv_at hl 2 rfl) ?_
      refine ht_getM hx hb hts hown hK I 1 (by decide) q214 rfl rfl dX2_sumOf_9 ?_
      refine ht_ge (tgt := 61) hx hb dX2_sumOf_12 (by decide) (by omega) (by omega) (fun c_1 => ?_) (fun c_1 => ?_)
      · refine lv_lload hx hb dX2_sumOf_61 (lv_at hl 1 rfl) ?_
        exact ht_lret hx hb hr hlk hK I (w2 := fun _ => ht_M ad dA (nI ln) (nI cn) (nI tn) F T SF SB LV NR RE ND) () (by rw [show i = cn by omega]) rfl dX2_sumOf_63
      · exact absurd c_1 (by omega)
    | succ n ih =>
      intro i hi H locs I ls hl
      refine lv_iload hx hb dX2_sumOf_6 (lv_at hl 0 rfl) ?_
      refine lv_aload_n hx hb dX2_sumOf_8 rfl (lv_at hl 2 rfl) ?_
      refine ht_getM hx hb hts hown hK I 1 (by decide) q214 rfl rfl dX2_sumOf_9 ?_
      refine ht_ge (tgt := 61) hx hb dX2_sumOf_12 (by decide) (by omega) (by omega) (fun c_2 => ?_) (fun c_2 => ?_)
      · exact absurd c_2 (by omega)
      · refine lv_aload_n hx hb dX2_sumOf_15 rfl (lv_at hl 2 rfl) ?_
        refine ht_getM hx hb hts hown hK I 10 (by decide) q223 rfl rfl dX2_sumOf_16 ?_
        refine lv_iload hx hb dX2_sumOf_19 (lv_at hl 0 rfl) ?_
        refine ht_ald hx hb hK I 8 rfl (by omega) dX2_sumOf_21 ?_
        refine lv_iload_n hx hb dX2_sumOf_22 rfl (lv_at hl 3 rfl) ?_
        refine lv_icmp_ne (tgt := 55) hx hb dX2_sumOf_23 (by decide) (fun c_3 => ?_) (fun c_3 => ?_)
        · have e_ : Int64.ofInt (ht_sum (ht_L F ND nd f b) RE (i + 1)) = Int64.ofInt (ht_sum (ht_L F ND nd f b) RE i) := congrArg Int64.ofInt (if_neg (ht_L_0 (Or.inl c_3)))
          refine lv_iinc (v := (nI (i + 1))) (lv' := [(6, .int (nI (i + 1))), (4, .long (Int64.ofInt (ht_sum (ht_L F ND nd f b) RE i))), (0, .ref (ad 0)), (1, .int (nI nd)), (2, .int f), (3, .int b)]) hx hb dX2_sumOf_55 hl (k := 0) rfl (nI_add i 1) (by decide) rfl (fun ls hl => ?_)
          refine lv_goto (tgt := 6) hx hb dX2_sumOf_58 (by decide) ?_
          rw [← e_] at hl
          exact ih (i + 1) (by omega) _ _ I ls (lv_sub hl [0, 1, 2, 3, 4, 5] rfl)
        · refine lv_aload_n hx hb dX2_sumOf_26 rfl (lv_at hl 2 rfl) ?_
          refine lv_aload_n hx hb dX2_sumOf_27 rfl (lv_at hl 2 rfl) ?_
          refine ht_getM hx hb hts hown hK I 2 (by decide) q215 rfl rfl dX2_sumOf_28 ?_
          refine lv_iload hx hb dX2_sumOf_31 (lv_at hl 0 rfl) ?_
          refine ht_ald hx hb hK I 1 rfl (by omega) dX2_sumOf_33 ?_
          refine lv_iload_n hx hb dX2_sumOf_34 rfl (lv_at hl 4 rfl) ?_
          refine ht_callVi (As := [.int (F i), .int f]) (rest := []) (wr := ht_M ad dA (nI ln) (nI cn) (nI tn) F T SF SB LV NR RE ND) (q0 := 0) (ci := 1) hx hb hml hown hts hK hA I (mt_cell l D dA (ad 0) (F i) f) (cwV 2 hts (lw_V q275 q277 qs18 q27 q278) rfl rfl rfl (by decide +kernel) (by decide)) rfl rfl [] [0, 1, 2, 3, 4, 5, 6, 7, 8] rfl rfl (by decide) (by decide) (by decide) rfl hl.1 rfl (Nat.le_of_ble_eq_true rfl) dX2_sumOf_35 (by decide) (fun r u H locs hp I => ?_)
          subst hp
          have I : ht_I D A s.heap (ht_M ad dA (nI ln) (nI cn) (nI tn) F T SF SB LV NR RE ND) H locs := I
          refine lv_iload_n hx hb dX2_sumOf_38 rfl (lv_at hl 5 rfl) ?_
          refine lv_icmp_gt (tgt := 55) hx hb dX2_sumOf_39 (by decide) (fun c_4 => ?_) (fun c_4 => ?_)
          · have e_ : Int64.ofInt (ht_sum (ht_L F ND nd f b) RE (i + 1)) = Int64.ofInt (ht_sum (ht_L F ND nd f b) RE i) := congrArg Int64.ofInt (if_neg (ht_L_0 (Or.inr c_4)))
            refine lv_iinc (v := (nI (i + 1))) (lv' := [(6, .int (nI (i + 1))), (4, .long (Int64.ofInt (ht_sum (ht_L F ND nd f b) RE i))), (0, .ref (ad 0)), (1, .int (nI nd)), (2, .int f), (3, .int b)]) hx hb dX2_sumOf_55 hl (k := 0) rfl (nI_add i 1) (by decide) rfl (fun ls hl => ?_)
            refine lv_goto (tgt := 6) hx hb dX2_sumOf_58 (by decide) ?_
            rw [← e_] at hl
            exact ih (i + 1) (by omega) _ _ I ls (lv_sub hl [0, 1, 2, 3, 4, 5] rfl)
          · have e_ : Int64.ofInt (ht_sum (ht_L F ND nd f b) RE (i + 1)) = Int64.ofInt (ht_sum (ht_L F ND nd f b) RE i) + (RE i).toInt64 := by rw [ht_i2l, ← Int64.ofInt_add]; exact congrArg Int64.ofInt (if_pos (ht_L_1 c_3 c_4))
            refine lv_lload hx hb dX2_sumOf_42 (lv_at hl 1 rfl) ?_
            refine lv_aload_n hx hb dX2_sumOf_44 rfl (lv_at hl 2 rfl) ?_
            refine ht_getM hx hb hts hown hK I 9 (by decide) q222 rfl rfl dX2_sumOf_45 ?_
            refine lv_iload hx hb dX2_sumOf_48 (lv_at hl 0 rfl) ?_
            refine ht_ald hx hb hK I 7 rfl (by omega) dX2_sumOf_50 ?_
            refine lv_i2l (v := (RE i).toInt64) hx hb dX2_sumOf_51 rfl ?_
            refine lv_ladd hx hb dX2_sumOf_52 ?_
            refine lv_lstore (lv' := [(4, .long ((Int64.ofInt (ht_sum (ht_L F ND nd f b) RE i)) + ((RE i).toInt64))), (6, .int (nI i)), (0, .ref (ad 0)), (1, .int (nI nd)), (2, .int f), (3, .int b)]) hx hb dX2_sumOf_53 hl (by decide) rfl (fun ls hl => ?_)
            refine lv_iinc (v := (nI (i + 1))) (lv' := [(6, .int (nI (i + 1))), (4, .long ((Int64.ofInt (ht_sum (ht_L F ND nd f b) RE i)) + ((RE i).toInt64))), (0, .ref (ad 0)), (1, .int (nI nd)), (2, .int f), (3, .int b)]) hx hb dX2_sumOf_55 hl (k := 1) rfl (nI_add i 1) (by decide) rfl (fun ls hl => ?_)
            refine lv_goto (tgt := 6) hx hb dX2_sumOf_58 (by decide) ?_
            rw [← e_] at hl
            exact ih (i + 1) (by omega) _ _ I ls (lv_sub hl [0, 1, 2, 3, 4, 5] rfl)
  refine lv_lconst (v := 0) hx hb dX2_sumOf_0 (by decide) ?_
  refine lv_lstore (lv' := [(4, .long (0 : Int64)), (0, .ref (ad 0)), (1, .int (nI nd)), (2, .int f), (3, .int b)]) hx hb dX2_sumOf_1 hl (by decide) rfl (fun ls hl => ?_)
  refine lv_iconst (v := nI 0) hx hb dX2_sumOf_3 (by decide) ?_
  refine lv_istore (lv' := [(6, .int (nI 0)), (4, .long (0 : Int64)), (0, .ref (ad 0)), (1, .int (nI nd)), (2, .int f), (3, .int b)]) hx hb dX2_sumOf_4 hl (by decide) rfl (fun ls hl => ?_)
  exact loop cn 0 (by omega) _ _ I ls (lv_sub hl [0, 1, 2, 3, 4, 5] rfl)
set_option maxHeartbeats 4000000 in
set_option maxRecDepth 100000 in
theorem mt_send (t nd : Nat) (ht : t < 4) (hnd : nd < 3) (hcn : cn ≤ 24) : ht_MV l D dA yX2_send (ws_ yX2_send cX2_send 5 none) 1 22 [.ref (ad 0), .int (nI t), .int (nI nd)] (ht_M ad dA (nI ln) (nI cn) (nI tn) F T SF SB LV NR RE ND) (S := Unit) (fun (_ : Unit) => True) (fun _ => ht_M ad dA (nI ln) (nI cn) (nI tn) F T (upd (upd SF (t * 7 + nd + nd + 1) (-6)) (t * 7 + nd + nd + 2) (-6)) SB LV NR RE (ht_send F ND (SF (t * 7 + nd)) (SB (t * 7 + nd)) nd (cn))) := by
  refine ht_MV_of (by decide) (Nat.le_of_ble_eq_true rfl) ?_
  intro p e s m below meth c A hx hb hr hlk hml hown hts hK hA I ls hl
  have hown : s.vm.findClass RX2 = some m.cls := hown
  have hl : lv_has ls 5 [(0, .ref (ad 0)), (1, .int (nI t)), (2, .int (nI nd))] := hl
  have loop : ∀ (n i : Nat), i + n = cn → ∀ (H : Heap) (locs : List Loc), ht_I D A s.heap (ht_M ad dA (nI ln) (nI cn) (nI tn) F T SF SB LV NR RE (ht_send F ND (SF (t * 7 + nd)) (SB (t * 7 + nd)) nd (i))) H locs → ∀ ls : Array Slot, lv_has ls 5 [(4, .int (nI i)), (3, .int (nI (t * 7 + nd))), (0, .ref (ad 0)), (1, .int (nI t)), (2, .int (nI nd))] → W p l e (ht_Rm 1 22) s m ([.ref (ad 0), .int (nI t), .int (nI nd)] : List Value).toArray below meth c H locs 0 0 (MQ below (va_Qv (fun (_ : Unit) => True) (fun u_ t_ => ht_Po D dA A ((fun _ => ht_M ad dA (nI ln) (nI cn) (nI tn) F T (upd (upd SF (t * 7 + nd + nd + 1) (-6)) (t * 7 + nd + nd + 2) (-6)) SB LV NR RE (ht_send F ND (SF (t * 7 + nd)) (SB (t * 7 + nd)) nd (cn))) u_) t_) A) ([.ref (ad 0), .int (nI t), .int (nI nd)] : List Value).toArray s 0 0 A) (F0 m 10 ls []) := by
    intro n
    induction n with
    | zero =>
      intro i hi H locs I ls hl
      refine lv_iload hx hb dX2_send_10 (lv_at hl 0 rfl) ?_
      refine lv_aload_n hx hb dX2_send_12 rfl (lv_at hl 2 rfl) ?_
      refine ht_getM hx hb hts hown hK I 1 (by decide) q214 rfl rfl dX2_send_13 ?_
      refine ht_ge (tgt := 82) hx hb dX2_send_16 (by decide) (by omega) (by omega) (fun c_1 => ?_) (fun c_1 => ?_)
      · obtain rfl : cn = i := by omega
        refine lv_aload_n hx hb dX2_send_82 rfl (lv_at hl 2 rfl) ?_
        refine ht_getM hx hb hts hown hK I 5 (by decide) q218 rfl rfl dX2_send_83 ?_
        refine lv_iload_n hx hb dX2_send_86 rfl (lv_at hl 1 rfl) ?_
        refine lv_iload_n hx hb dX2_send_87 rfl (lv_at hl 4 rfl) ?_
        refine lv_iadd hx hb dX2_send_88 ?_
        refine ht_ti (nI_add (t * 7 + nd) nd) ?_
        refine lv_iconst (v := nI 1) hx hb dX2_send_89 (by decide) ?_
        refine lv_iadd hx hb dX2_send_90 ?_
        refine ht_ti (nI_add (t * 7 + nd + nd) 1) ?_
        refine lv_bipush (v := (-6)) hx hb dX2_send_91 (by decide) ?_
        refine ht_ast (w3 := ht_M ad dA (nI ln) (nI cn) (nI tn) F T (upd SF (t * 7 + nd + nd + 1) (-6 : Int32)) SB LV NR RE (ht_send F ND (SF (t * 7 + nd)) (SB (t * 7 + nd)) nd (cn))) hx hb hK I 3 rfl (by omega) rfl dX2_send_93 (fun H locs I => ?_)
        refine lv_aload_n hx hb dX2_send_94 rfl (lv_at hl 2 rfl) ?_
        refine ht_getM hx hb hts hown hK I 5 (by decide) q218 rfl rfl dX2_send_95 ?_
        refine lv_iload_n hx hb dX2_send_98 rfl (lv_at hl 1 rfl) ?_
        refine lv_iload_n hx hb dX2_send_99 rfl (lv_at hl 4 rfl) ?_
        refine lv_iadd hx hb dX2_send_100 ?_
        refine ht_ti (nI_add (t * 7 + nd) nd) ?_
        refine lv_iconst (v := nI 2) hx hb dX2_send_101 (by decide) ?_
        refine lv_iadd hx hb dX2_send_102 ?_
        refine ht_ti (nI_add (t * 7 + nd + nd) 2) ?_
        refine lv_bipush (v := (-6)) hx hb dX2_send_103 (by decide) ?_
        refine ht_ast (w3 := ht_M ad dA (nI ln) (nI cn) (nI tn) F T (upd (upd SF (t * 7 + nd + nd + 1) (-6 : Int32)) (t * 7 + nd + nd + 2) (-6 : Int32)) SB LV NR RE (ht_send F ND (SF (t * 7 + nd)) (SB (t * 7 + nd)) nd (cn))) hx hb hK I 3 rfl (by omega) rfl dX2_send_105 (fun H locs I => ?_)
        exact ht_vret hx hb hr hlk hK I (w2 := fun _ => ht_M ad dA (nI ln) (nI cn) (nI tn) F T (upd (upd SF (t * 7 + nd + nd + 1) (-6)) (t * 7 + nd + nd + 2) (-6)) SB LV NR RE (ht_send F ND (SF (t * 7 + nd)) (SB (t * 7 + nd)) nd (cn))) () trivial rfl dX2_send_106
      · exact absurd c_1 (by omega)
    | succ n ih =>
      intro i hi H locs I ls hl
      refine lv_iload hx hb dX2_send_10 (lv_at hl 0 rfl) ?_
      refine lv_aload_n hx hb dX2_send_12 rfl (lv_at hl 2 rfl) ?_
      refine ht_getM hx hb hts hown hK I 1 (by decide) q214 rfl rfl dX2_send_13 ?_
      refine ht_ge (tgt := 82) hx hb dX2_send_16 (by decide) (by omega) (by omega) (fun c_2 => ?_) (fun c_2 => ?_)
      · exact absurd c_2 (by omega)
      · refine lv_aload_n hx hb dX2_send_19 rfl (lv_at hl 2 rfl) ?_
        refine ht_getM hx hb hts hown hK I 10 (by decide) q223 rfl rfl dX2_send_20 ?_
        refine lv_iload hx hb dX2_send_23 (lv_at hl 0 rfl) ?_
        refine ht_ald hx hb hK I 8 rfl (by omega) dX2_send_25 ?_
        refine ht_ti ht_send_at ?_
        refine lv_iload_n hx hb dX2_send_26 rfl (lv_at hl 4 rfl) ?_
        refine lv_icmp_ne (tgt := 76) hx hb dX2_send_27 (by decide) (fun c_3 => ?_) (fun c_3 => ?_)
        · refine lv_iinc (v := (nI (i + 1))) (lv' := [(4, .int (nI (i + 1))), (3, .int (nI (t * 7 + nd))), (0, .ref (ad 0)), (1, .int (nI t)), (2, .int (nI nd))]) hx hb dX2_send_76 hl (k := 0) rfl (nI_add i 1) (by decide) rfl (fun ls hl => ?_)
          refine lv_goto (tgt := 10) hx hb dX2_send_79 (by decide) ?_
          rw [← ht_send_k c_3] at I
          exact ih (i + 1) (by omega) _ _ I ls (lv_sub hl [0, 1, 2, 3, 4] rfl)
        · refine lv_aload_n hx hb dX2_send_30 rfl (lv_at hl 2 rfl) ?_
          refine ht_getM hx hb hts hown hK I 10 (by decide) q223 rfl rfl dX2_send_31 ?_
          refine lv_iload hx hb dX2_send_34 (lv_at hl 0 rfl) ?_
          refine lv_aload_n hx hb dX2_send_36 rfl (lv_at hl 2 rfl) ?_
          refine lv_aload_n hx hb dX2_send_37 rfl (lv_at hl 2 rfl) ?_
          refine ht_getM hx hb hts hown hK I 2 (by decide) q215 rfl rfl dX2_send_38 ?_
          refine lv_iload hx hb dX2_send_41 (lv_at hl 0 rfl) ?_
          refine ht_ald hx hb hK I 1 rfl (by omega) dX2_send_43 ?_
          refine lv_aload_n hx hb dX2_send_44 rfl (lv_at hl 2 rfl) ?_
          refine ht_getM hx hb hts hown hK I 5 (by decide) q218 rfl rfl dX2_send_45 ?_
          refine lv_iload_n hx hb dX2_send_48 rfl (lv_at hl 1 rfl) ?_
          refine ht_ald hx hb hK I 3 rfl (by omega) dX2_send_49 ?_
          refine ht_callVi (As := [.int (F i), .int (SF (t * 7 + nd))]) (rest := [.int (nI i), .ref (ad 8)]) (wr := ht_M ad dA (nI ln) (nI cn) (nI tn) F T SF SB LV NR RE (ht_send F ND (SF (t * 7 + nd)) (SB (t * 7 + nd)) nd (i))) (q0 := 0) (ci := 1) hx hb hml hown hts hK hA I (mt_cell l D dA (ad 0) (F i) (SF (t * 7 + nd))) (cwV 2 hts (lw_V q275 q277 qs18 q27 q278) rfl rfl rfl (by decide +kernel) (by decide)) rfl rfl [] [0, 1, 2, 3, 4, 5, 6, 7, 8] rfl rfl (by decide) (by decide) (by decide) rfl hl.1 rfl (Nat.le_of_ble_eq_true rfl) dX2_send_50 (by decide) (fun r u H locs hp I => ?_)
          subst hp
          have I : ht_I D A s.heap (ht_M ad dA (nI ln) (nI cn) (nI tn) F T SF SB LV NR RE (ht_send F ND (SF (t * 7 + nd)) (SB (t * 7 + nd)) nd (i))) H locs := I
          refine lv_aload_n hx hb dX2_send_53 rfl (lv_at hl 2 rfl) ?_
          refine ht_getM hx hb hts hown hK I 6 (by decide) q219 rfl rfl dX2_send_54 ?_
          refine lv_iload_n hx hb dX2_send_57 rfl (lv_at hl 1 rfl) ?_
          refine ht_ald hx hb hK I 4 rfl (by omega) dX2_send_58 ?_
          refine lv_icmp_gt (tgt := 70) hx hb dX2_send_59 (by decide) (fun c_4 => ?_) (fun c_4 => ?_)
          · refine lv_iconst (v := nI 2) hx hb dX2_send_70 (by decide) ?_
            refine lv_iload_n hx hb dX2_send_71 rfl (lv_at hl 4 rfl) ?_
            refine lv_imul hx hb dX2_send_72 ?_
            refine ht_ti (pk_mul 2 nd) ?_
            refine lv_iconst (v := nI 2) hx hb dX2_send_73 (by decide) ?_
            refine lv_iadd hx hb dX2_send_74 ?_
            refine ht_ti (nI_add (2 * nd) 2) ?_
            refine ht_ast (w3 := ht_M ad dA (nI ln) (nI cn) (nI tn) F T SF SB LV NR RE (upd (ht_send F ND (SF (t * 7 + nd)) (SB (t * 7 + nd)) nd (i)) i (nI (2 * nd + 2)))) hx hb hK I 8 rfl (by omega) rfl dX2_send_75 (fun H locs I => ?_)
            refine lv_iinc (v := (nI (i + 1))) (lv' := [(4, .int (nI (i + 1))), (3, .int (nI (t * 7 + nd))), (0, .ref (ad 0)), (1, .int (nI t)), (2, .int (nI nd))]) hx hb dX2_send_76 hl (k := 0) rfl (nI_add i 1) (by decide) rfl (fun ls hl => ?_)
            refine lv_goto (tgt := 10) hx hb dX2_send_79 (by decide) ?_
            rw [ht_send_s c_3 (by rw [if_pos c_4])] at I
            exact ih (i + 1) (by omega) _ _ I ls (lv_sub hl [0, 1, 2, 3, 4] rfl)
          · refine lv_iconst (v := nI 2) hx hb dX2_send_62 (by decide) ?_
            refine lv_iload_n hx hb dX2_send_63 rfl (lv_at hl 4 rfl) ?_
            refine lv_imul hx hb dX2_send_64 ?_
            refine ht_ti (pk_mul 2 nd) ?_
            refine lv_iconst (v := nI 1) hx hb dX2_send_65 (by decide) ?_
            refine lv_iadd hx hb dX2_send_66 ?_
            refine ht_ti (nI_add (2 * nd) 1) ?_
            refine lv_goto (tgt := 75) hx hb dX2_send_67 (by decide) ?_
            refine ht_ast (w3 := ht_M ad dA (nI ln) (nI cn) (nI tn) F T SF SB LV NR RE (upd (ht_send F ND (SF (t * 7 + nd)) (SB (t * 7 + nd)) nd (i)) i (nI (2 * nd + 1)))) hx hb hK I 8 rfl (by omega) rfl dX2_send_75 (fun H locs I => ?_)
            refine lv_iinc (v := (nI (i + 1))) (lv' := [(4, .int (nI (i + 1))), (3, .int (nI (t * 7 + nd))), (0, .ref (ad 0)), (1, .int (nI t)), (2, .int (nI nd))]) hx hb dX2_send_76 hl (k := 0) rfl (nI_add i 1) (by decide) rfl (fun ls hl => ?_)
            refine lv_goto (tgt := 10) hx hb dX2_send_79 (by decide) ?_
            rw [ht_send_s c_3 (by rw [if_neg c_4])] at I
            exact ih (i + 1) (by omega) _ _ I ls (lv_sub hl [0, 1, 2, 3, 4] rfl)
  refine lv_iload_n hx hb dX2_send_0 rfl (lv_at hl 1 rfl) ?_
  refine lv_bipush (v := nI 7) hx hb dX2_send_1 (by decide) ?_
  refine lv_imul hx hb dX2_send_3 ?_
  refine ht_ti (pk_mul t 7) ?_
  refine lv_iload_n hx hb dX2_send_4 rfl (lv_at hl 2 rfl) ?_
  refine lv_iadd hx hb dX2_send_5 ?_
  refine ht_ti (nI_add (t * 7) nd) ?_
  refine lv_istore_n (lv' := [(3, .int (nI (t * 7 + nd))), (0, .ref (ad 0)), (1, .int (nI t)), (2, .int (nI nd))]) hx hb dX2_send_6 rfl hl (by decide) rfl (fun ls hl => ?_)
  refine lv_iconst (v := nI 0) hx hb dX2_send_7 (by decide) ?_
  refine lv_istore (lv' := [(4, .int (nI 0)), (3, .int (nI (t * 7 + nd))), (0, .ref (ad 0)), (1, .int (nI t)), (2, .int (nI nd))]) hx hb dX2_send_8 hl (by decide) rfl (fun ls hl => ?_)
  have I := I.to (w3 := ht_M ad dA (nI ln) (nI cn) (nI tn) F T SF SB LV NR RE (ht_send F ND (SF (t * 7 + nd)) (SB (t * 7 + nd)) nd (0))) (by rw [ht_send_0])
  exact loop cn 0 (by omega) _ _ I ls (lv_sub hl [0, 1, 2, 3, 4] rfl)
end
section
variable (l : Launch) (D : va_G) (dA : ClassId) (ad : Nat → Nat) (ln cn tn : Nat) (F T SF SB LV NR RE ND : Nat → Int32)
set_option maxHeartbeats 4000000 in
set_option maxRecDepth 100000 in
theorem mt_split (t nd : Nat) (ht : t < 4) (hnd : nd < 3) (hcn : cn ≤ 24) : ht_MV l D dA yX2_split (ws_ yX2_split cX2_split 24 none) 2 48 [.ref (ad 0), .int (nI t), .int (nI nd)] (ht_M ad dA (nI ln) (nI cn) (nI tn) F T SF SB LV NR RE ND) (S := ht_T3) (fun (u : ht_T3) => u = ht_split (nI ln) F ND RE SF SB cn nd (t * 7 + nd)) (fun (u : ht_T3) => ht_M ad dA (nI ln) (nI cn) (nI tn) F T u.1 u.2.1 LV NR RE u.2.2) := by
  refine ht_MV_of (by decide) (Nat.le_of_ble_eq_true rfl) ?_
  intro p e s m below meth c A hx hb hr hlk hml hown hts hK hA I ls hl
  have hown : s.vm.findClass RX2 = some m.cls := hown
  have hl : lv_has ls 24 [(0, .ref (ad 0)), (1, .int (nI t)), (2, .int (nI nd))] := hl
  have loop : ∀ (k f : Nat), f + k = 3 → ∀ (H : Heap) (locs : List Loc), ht_I D A s.heap (ht_M ad dA (nI ln) (nI cn) (nI tn) F T ((ht_mf (nI ln) (t * 7 + nd) F ND RE cn nd (nI (ht_cnt (ht_L F ND nd (nI 0) (nI 7)) cn)).toInt64 (Int64.ofInt (ht_sum (ht_L F ND nd (nI 0) (nI 7)) RE cn)) (ht_m0 F ND RE SF SB cn nd) (f * 7)).2.2.1) ((ht_mf (nI ln) (t * 7 + nd) F ND RE cn nd (nI (ht_cnt (ht_L F ND nd (nI 0) (nI 7)) cn)).toInt64 (Int64.ofInt (ht_sum (ht_L F ND nd (nI 0) (nI 7)) RE cn)) (ht_m0 F ND RE SF SB cn nd) (f * 7)).2.2.2) LV NR RE ND) H locs → ∀ ls : Array Slot, lv_has ls 24 [(12, .int (nI f)), (11, .int (nI (t * 7 + nd))), (9, .long ((ht_mf (nI ln) (t * 7 + nd) F ND RE cn nd (nI (ht_cnt (ht_L F ND nd (nI 0) (nI 7)) cn)).toInt64 (Int64.ofInt (ht_sum (ht_L F ND nd (nI 0) (nI 7)) RE cn)) (ht_m0 F ND RE SF SB cn nd) (f * 7)).2.1)), (7, .long ((ht_mf (nI ln) (t * 7 + nd) F ND RE cn nd (nI (ht_cnt (ht_L F ND nd (nI 0) (nI 7)) cn)).toInt64 (Int64.ofInt (ht_sum (ht_L F ND nd (nI 0) (nI 7)) RE cn)) (ht_m0 F ND RE SF SB cn nd) (f * 7)).1)), (5, .long (Int64.ofInt (ht_sum (ht_L F ND nd (nI 0) (nI 7)) RE cn))), (3, .long ((nI (ht_cnt (ht_L F ND nd (nI 0) (nI 7)) cn)).toInt64)), (0, .ref (ad 0)), (1, .int (nI t)), (2, .int (nI nd))] → W p l e (ht_Rm 2 48) s m ([.ref (ad 0), .int (nI t), .int (nI nd)] : List Value).toArray below meth c H locs 0 0 (MQ below (va_Qv (fun (u : ht_T3) => u = ht_split (nI ln) F ND RE SF SB cn nd (t * 7 + nd)) (fun u_ t_ => ht_Po D dA A ((fun (u : ht_T3) => ht_M ad dA (nI ln) (nI cn) (nI tn) F T u.1 u.2.1 LV NR RE u.2.2) u_) t_) A) ([.ref (ad 0), .int (nI t), .int (nI nd)] : List Value).toArray s 0 0 A) (F0 m 41 ls []) := by
    intro n
    induction n with
    | zero =>
      intro f hf H locs I ls hl
      refine lv_iload hx hb dX2_split_41 (lv_at hl 0 rfl) ?_
      refine lv_iconst (v := nI 3) hx hb dX2_split_43 (by decide) ?_
      refine ht_ge (tgt := 192) hx hb dX2_split_44 (by decide) (by omega) (by omega) (fun c_1 => ?_) (fun c_1 => ?_)
      · obtain rfl : f = 3 := by omega
        have I : ht_I D A s.heap (ht_M ad dA (nI ln) (nI cn) (nI tn) F T ((ht_mf (nI ln) (t * 7 + nd) F ND RE cn nd (nI (ht_cnt (ht_L F ND nd (nI 0) (nI 7)) cn)).toInt64 (Int64.ofInt (ht_sum (ht_L F ND nd (nI 0) (nI 7)) RE cn)) (ht_m0 F ND RE SF SB cn nd) (21)).2.2.1) ((ht_mf (nI ln) (t * 7 + nd) F ND RE cn nd (nI (ht_cnt (ht_L F ND nd (nI 0) (nI 7)) cn)).toInt64 (Int64.ofInt (ht_sum (ht_L F ND nd (nI 0) (nI 7)) RE cn)) (ht_m0 F ND RE SF SB cn nd) (21)).2.2.2) LV NR RE ND) H locs := I
        refine lv_aload_n hx hb dX2_split_192 rfl (lv_at hl 6 rfl) ?_
        refine ht_getM hx hb hts hown hK I 5 (by decide) q218 rfl rfl dX2_split_193 ?_
        refine lv_iload hx hb dX2_split_196 (lv_at hl 1 rfl) ?_
        refine ht_ald hx hb hK I 3 rfl (by omega) dX2_split_198 ?_
        refine lv_if_lt (tgt := 208) hx hb dX2_split_199 (by decide) (fun c_2 => ?_) (fun c_2 => ?_)
        · exact ht_vret hx hb hr hlk hK I (w2 := fun (u : ht_T3) => ht_M ad dA (nI ln) (nI cn) (nI tn) F T u.1 u.2.1 LV NR RE u.2.2) ((ht_mf (nI ln) (t * 7 + nd) F ND RE cn nd (nI (ht_cnt (ht_L F ND nd (nI 0) (nI 7)) cn)).toInt64 (Int64.ofInt (ht_sum (ht_L F ND nd (nI 0) (nI 7)) RE cn)) (ht_m0 F ND RE SF SB cn nd) (21)).2.2.1, (ht_mf (nI ln) (t * 7 + nd) F ND RE cn nd (nI (ht_cnt (ht_L F ND nd (nI 0) (nI 7)) cn)).toInt64 (Int64.ofInt (ht_sum (ht_L F ND nd (nI 0) (nI 7)) RE cn)) (ht_m0 F ND RE SF SB cn nd) (21)).2.2.2, ND) (by unfold ht_split ht_spl; rw [if_pos c_2]) rfl dX2_split_208
        · refine lv_aload_n hx hb dX2_split_202 rfl (lv_at hl 6 rfl) ?_
          refine lv_iload_n hx hb dX2_split_203 rfl (lv_at hl 7 rfl) ?_
          refine lv_iload_n hx hb dX2_split_204 rfl (lv_at hl 8 rfl) ?_
          refine ht_callVv (As := [.int (nI t), .int (nI nd)]) (rest := []) (wr := []) (q0 := 0) (ci := 1) hx hb hml hown hts hK hA I (mt_send l D dA ad ln cn tn F T ((ht_mf (nI ln) (t * 7 + nd) F ND RE cn nd (nI (ht_cnt (ht_L F ND nd (nI 0) (nI 7)) cn)).toInt64 (Int64.ofInt (ht_sum (ht_L F ND nd (nI 0) (nI 7)) RE cn)) (ht_m0 F ND RE SF SB cn nd) (21)).2.2.1) ((ht_mf (nI ln) (t * 7 + nd) F ND RE cn nd (nI (ht_cnt (ht_L F ND nd (nI 0) (nI 7)) cn)).toInt64 (Int64.ofInt (ht_sum (ht_L F ND nd (nI 0) (nI 7)) RE cn)) (ht_m0 F ND RE SF SB cn nd) (21)).2.2.2) LV NR RE ND t nd ht hnd hcn) (cwV 2 hts (lw_V q295 q297 qs23 q27 q298) rfl rfl rfl (by decide +kernel) (by decide)) rfl rfl [0, 1, 2, 3, 4, 5, 6, 7, 8] [] rfl rfl (by decide) (by decide) (by decide) rfl hl.1 rfl (Nat.le_of_ble_eq_true rfl) dX2_split_205 (by decide) (fun u H locs hp I => ?_)
          have I : ht_I D A s.heap (ht_M ad dA (nI ln) (nI cn) (nI tn) F T (upd (upd ((ht_mf (nI ln) (t * 7 + nd) F ND RE cn nd (nI (ht_cnt (ht_L F ND nd (nI 0) (nI 7)) cn)).toInt64 (Int64.ofInt (ht_sum (ht_L F ND nd (nI 0) (nI 7)) RE cn)) (ht_m0 F ND RE SF SB cn nd) (21)).2.2.1) (t * 7 + nd + nd + 1) (-6)) (t * 7 + nd + nd + 2) (-6)) ((ht_mf (nI ln) (t * 7 + nd) F ND RE cn nd (nI (ht_cnt (ht_L F ND nd (nI 0) (nI 7)) cn)).toInt64 (Int64.ofInt (ht_sum (ht_L F ND nd (nI 0) (nI 7)) RE cn)) (ht_m0 F ND RE SF SB cn nd) (21)).2.2.2) LV NR RE (ht_send F ND ((ht_mf (nI ln) (t * 7 + nd) F ND RE cn nd (nI (ht_cnt (ht_L F ND nd (nI 0) (nI 7)) cn)).toInt64 (Int64.ofInt (ht_sum (ht_L F ND nd (nI 0) (nI 7)) RE cn)) (ht_m0 F ND RE SF SB cn nd) (21)).2.2.1 (t * 7 + nd)) ((ht_mf (nI ln) (t * 7 + nd) F ND RE cn nd (nI (ht_cnt (ht_L F ND nd (nI 0) (nI 7)) cn)).toInt64 (Int64.ofInt (ht_sum (ht_L F ND nd (nI 0) (nI 7)) RE cn)) (ht_m0 F ND RE SF SB cn nd) (21)).2.2.2 (t * 7 + nd)) nd cn)) H locs := I
          exact ht_vret hx hb hr hlk hK I (w2 := fun (u : ht_T3) => ht_M ad dA (nI ln) (nI cn) (nI tn) F T u.1 u.2.1 LV NR RE u.2.2) (upd (upd ((ht_mf (nI ln) (t * 7 + nd) F ND RE cn nd (nI (ht_cnt (ht_L F ND nd (nI 0) (nI 7)) cn)).toInt64 (Int64.ofInt (ht_sum (ht_L F ND nd (nI 0) (nI 7)) RE cn)) (ht_m0 F ND RE SF SB cn nd) (21)).2.2.1) (t * 7 + nd + nd + 1) (-6)) (t * 7 + nd + nd + 2) (-6), (ht_mf (nI ln) (t * 7 + nd) F ND RE cn nd (nI (ht_cnt (ht_L F ND nd (nI 0) (nI 7)) cn)).toInt64 (Int64.ofInt (ht_sum (ht_L F ND nd (nI 0) (nI 7)) RE cn)) (ht_m0 F ND RE SF SB cn nd) (21)).2.2.2, ht_send F ND ((ht_mf (nI ln) (t * 7 + nd) F ND RE cn nd (nI (ht_cnt (ht_L F ND nd (nI 0) (nI 7)) cn)).toInt64 (Int64.ofInt (ht_sum (ht_L F ND nd (nI 0) (nI 7)) RE cn)) (ht_m0 F ND RE SF SB cn nd) (21)).2.2.1 (t * 7 + nd)) ((ht_mf (nI ln) (t * 7 + nd) F ND RE cn nd (nI (ht_cnt (ht_L F ND nd (nI 0) (nI 7)) cn)).toInt64 (Int64.ofInt (ht_sum (ht_L F ND nd (nI 0) (nI 7)) RE cn)) (ht_m0 F ND RE SF SB cn nd) (21)).2.2.2 (t * 7 + nd)) nd cn) (by unfold ht_split ht_spl; rw [if_neg c_2]) rfl dX2_split_208
      · exact absurd c_1 (by omega)
    | succ n ih =>
      intro f hf H locs I ls hl
      refine lv_iload hx hb dX2_split_41 (lv_at hl 0 rfl) ?_
      refine lv_iconst (v := nI 3) hx hb dX2_split_43 (by decide) ?_
      refine ht_ge (tgt := 192) hx hb dX2_split_44 (by decide) (by omega) (by omega) (fun c_3 => ?_) (fun c_3 => ?_)
      · exact absurd c_3 (by omega)
      · have inner : ∀ (n2 b : Nat), b + n2 = 7 → ∀ (H : Heap) (locs : List Loc), ht_I D A s.heap (ht_M ad dA (nI ln) (nI cn) (nI tn) F T ((ht_mf (nI ln) (t * 7 + nd) F ND RE cn nd (nI (ht_cnt (ht_L F ND nd (nI 0) (nI 7)) cn)).toInt64 (Int64.ofInt (ht_sum (ht_L F ND nd (nI 0) (nI 7)) RE cn)) (ht_m0 F ND RE SF SB cn nd) (f * 7 + b)).2.2.1) ((ht_mf (nI ln) (t * 7 + nd) F ND RE cn nd (nI (ht_cnt (ht_L F ND nd (nI 0) (nI 7)) cn)).toInt64 (Int64.ofInt (ht_sum (ht_L F ND nd (nI 0) (nI 7)) RE cn)) (ht_m0 F ND RE SF SB cn nd) (f * 7 + b)).2.2.2) LV NR RE ND) H locs → ∀ ls : Array Slot, lv_has ls 24 [(13, .int (nI b)), (12, .int (nI f)), (11, .int (nI (t * 7 + nd))), (9, .long ((ht_mf (nI ln) (t * 7 + nd) F ND RE cn nd (nI (ht_cnt (ht_L F ND nd (nI 0) (nI 7)) cn)).toInt64 (Int64.ofInt (ht_sum (ht_L F ND nd (nI 0) (nI 7)) RE cn)) (ht_m0 F ND RE SF SB cn nd) (f * 7 + b)).2.1)), (7, .long ((ht_mf (nI ln) (t * 7 + nd) F ND RE cn nd (nI (ht_cnt (ht_L F ND nd (nI 0) (nI 7)) cn)).toInt64 (Int64.ofInt (ht_sum (ht_L F ND nd (nI 0) (nI 7)) RE cn)) (ht_m0 F ND RE SF SB cn nd) (f * 7 + b)).1)), (5, .long (Int64.ofInt (ht_sum (ht_L F ND nd (nI 0) (nI 7)) RE cn))), (3, .long ((nI (ht_cnt (ht_L F ND nd (nI 0) (nI 7)) cn)).toInt64)), (0, .ref (ad 0)), (1, .int (nI t)), (2, .int (nI nd))] → W p l e (ht_Rm 2 48) s m ([.ref (ad 0), .int (nI t), .int (nI nd)] : List Value).toArray below meth c H locs 0 0 (MQ below (va_Qv (fun (u : ht_T3) => u = ht_split (nI ln) F ND RE SF SB cn nd (t * 7 + nd)) (fun u_ t_ => ht_Po D dA A ((fun (u : ht_T3) => ht_M ad dA (nI ln) (nI cn) (nI tn) F T u.1 u.2.1 LV NR RE u.2.2) u_) t_) A) ([.ref (ad 0), .int (nI t), .int (nI nd)] : List Value).toArray s 0 0 A) (F0 m 50 ls []) := by
          intro n2
          induction n2 with
          | zero =>
            intro b hb2 H locs I ls hl
            refine lv_iload hx hb dX2_split_50 (lv_at hl 0 rfl) ?_
            refine lv_bipush (v := nI 7) hx hb dX2_split_52 (by decide) ?_
            refine ht_ge (tgt := 186) hx hb dX2_split_54 (by decide) (by omega) (by omega) (fun c_4 => ?_) (fun c_4 => ?_)
            · refine lv_iinc (v := (nI (f + 1))) (lv' := [(12, .int (nI (f + 1))), (13, .int (nI b)), (11, .int (nI (t * 7 + nd))), (9, .long ((ht_mf (nI ln) (t * 7 + nd) F ND RE cn nd (nI (ht_cnt (ht_L F ND nd (nI 0) (nI 7)) cn)).toInt64 (Int64.ofInt (ht_sum (ht_L F ND nd (nI 0) (nI 7)) RE cn)) (ht_m0 F ND RE SF SB cn nd) (f * 7 + b)).2.1)), (7, .long ((ht_mf (nI ln) (t * 7 + nd) F ND RE cn nd (nI (ht_cnt (ht_L F ND nd (nI 0) (nI 7)) cn)).toInt64 (Int64.ofInt (ht_sum (ht_L F ND nd (nI 0) (nI 7)) RE cn)) (ht_m0 F ND RE SF SB cn nd) (f * 7 + b)).1)), (5, .long (Int64.ofInt (ht_sum (ht_L F ND nd (nI 0) (nI 7)) RE cn))), (3, .long ((nI (ht_cnt (ht_L F ND nd (nI 0) (nI 7)) cn)).toInt64)), (0, .ref (ad 0)), (1, .int (nI t)), (2, .int (nI nd))]) hx hb dX2_split_186 hl (k := 1) rfl (nI_add f 1) (by decide) rfl (fun ls hl => ?_)
              refine lv_goto (tgt := 41) hx hb dX2_split_189 (by decide) ?_
              rw [show f * 7 + b = (f + 1) * 7 by omega] at I hl
              exact ih (f + 1) (by omega) _ _ I ls (lv_sub hl [0, 2, 3, 4, 5, 6, 7, 8, 9] rfl)
            · exact absurd c_4 (by omega)
          | succ n2 ih2 =>
            intro b hb2 H locs I ls hl
            refine lv_iload hx hb dX2_split_50 (lv_at hl 0 rfl) ?_
            refine lv_bipush (v := nI 7) hx hb dX2_split_52 (by decide) ?_
            refine ht_ge (tgt := 186) hx hb dX2_split_54 (by decide) (by omega) (by omega) (fun c_5 => ?_) (fun c_5 => ?_)
            · exact absurd c_5 (by omega)
            · refine lv_aload_n hx hb dX2_split_57 rfl (lv_at hl 7 rfl) ?_
              refine lv_iload_n hx hb dX2_split_58 rfl (lv_at hl 9 rfl) ?_
              refine lv_iload hx hb dX2_split_59 (lv_at hl 1 rfl) ?_
              refine lv_iload hx hb dX2_split_61 (lv_at hl 0 rfl) ?_
              refine ht_callVi (As := [.int (nI nd), .int (nI f), .int (nI b)]) (rest := []) (wr := []) (q0 := 0) (ci := 1) hx hb hml hown hts hK hA I (mt_rowsOf l D dA ad ln cn tn F T ((ht_mf (nI ln) (t * 7 + nd) F ND RE cn nd (nI (ht_cnt (ht_L F ND nd (nI 0) (nI 7)) cn)).toInt64 (Int64.ofInt (ht_sum (ht_L F ND nd (nI 0) (nI 7)) RE cn)) (ht_m0 F ND RE SF SB cn nd) (f * 7 + b)).2.2.1) ((ht_mf (nI ln) (t * 7 + nd) F ND RE cn nd (nI (ht_cnt (ht_L F ND nd (nI 0) (nI 7)) cn)).toInt64 (Int64.ofInt (ht_sum (ht_L F ND nd (nI 0) (nI 7)) RE cn)) (ht_m0 F ND RE SF SB cn nd) (f * 7 + b)).2.2.2) LV NR RE ND nd (nI f) (nI b) hcn (by omega)) (cwV 3 hts (lw_V q283 q285 qs20 q27 q286) rfl rfl rfl (by decide +kernel) (by decide)) rfl rfl [0, 1, 2, 3, 4, 5, 6, 7, 8] [] rfl rfl (by decide) (by decide) (by decide) rfl hl.1 rfl (Nat.le_of_ble_eq_true rfl) dX2_split_63 (by decide) (fun r u H locs hp I => ?_)
              subst hp
              have I : ht_I D A s.heap (ht_M ad dA (nI ln) (nI cn) (nI tn) F T ((ht_mf (nI ln) (t * 7 + nd) F ND RE cn nd (nI (ht_cnt (ht_L F ND nd (nI 0) (nI 7)) cn)).toInt64 (Int64.ofInt (ht_sum (ht_L F ND nd (nI 0) (nI 7)) RE cn)) (ht_m0 F ND RE SF SB cn nd) (f * 7 + b)).2.2.1) ((ht_mf (nI ln) (t * 7 + nd) F ND RE cn nd (nI (ht_cnt (ht_L F ND nd (nI 0) (nI 7)) cn)).toInt64 (Int64.ofInt (ht_sum (ht_L F ND nd (nI 0) (nI 7)) RE cn)) (ht_m0 F ND RE SF SB cn nd) (f * 7 + b)).2.2.2) LV NR RE ND) H locs := I
              refine lv_i2l (v := (nI (ht_cnt (ht_L F ND nd (nI f) (nI b)) cn)).toInt64) hx hb dX2_split_66 rfl ?_
              refine lv_lstore (lv' := [(14, .long ((nI (ht_cnt (ht_L F ND nd (nI f) (nI b)) cn)).toInt64)), (13, .int (nI b)), (12, .int (nI f)), (11, .int (nI (t * 7 + nd))), (9, .long ((ht_mf (nI ln) (t * 7 + nd) F ND RE cn nd (nI (ht_cnt (ht_L F ND nd (nI 0) (nI 7)) cn)).toInt64 (Int64.ofInt (ht_sum (ht_L F ND nd (nI 0) (nI 7)) RE cn)) (ht_m0 F ND RE SF SB cn nd) (f * 7 + b)).2.1)), (7, .long ((ht_mf (nI ln) (t * 7 + nd) F ND RE cn nd (nI (ht_cnt (ht_L F ND nd (nI 0) (nI 7)) cn)).toInt64 (Int64.ofInt (ht_sum (ht_L F ND nd (nI 0) (nI 7)) RE cn)) (ht_m0 F ND RE SF SB cn nd) (f * 7 + b)).1)), (5, .long (Int64.ofInt (ht_sum (ht_L F ND nd (nI 0) (nI 7)) RE cn))), (3, .long ((nI (ht_cnt (ht_L F ND nd (nI 0) (nI 7)) cn)).toInt64)), (0, .ref (ad 0)), (1, .int (nI t)), (2, .int (nI nd))]) hx hb dX2_split_67 hl (by decide) rfl (fun ls hl => ?_)
              refine lv_aload_n hx hb dX2_split_69 rfl (lv_at hl 8 rfl) ?_
              refine lv_iload_n hx hb dX2_split_70 rfl (lv_at hl 10 rfl) ?_
              refine lv_iload hx hb dX2_split_71 (lv_at hl 2 rfl) ?_
              refine lv_iload hx hb dX2_split_73 (lv_at hl 1 rfl) ?_
              refine ht_callVl (As := [.int (nI nd), .int (nI f), .int (nI b)]) (rest := []) (wr := []) (q0 := 0) (ci := 1) hx hb hml hown hts hK hA I (mt_sumOf l D dA ad ln cn tn F T ((ht_mf (nI ln) (t * 7 + nd) F ND RE cn nd (nI (ht_cnt (ht_L F ND nd (nI 0) (nI 7)) cn)).toInt64 (Int64.ofInt (ht_sum (ht_L F ND nd (nI 0) (nI 7)) RE cn)) (ht_m0 F ND RE SF SB cn nd) (f * 7 + b)).2.2.1) ((ht_mf (nI ln) (t * 7 + nd) F ND RE cn nd (nI (ht_cnt (ht_L F ND nd (nI 0) (nI 7)) cn)).toInt64 (Int64.ofInt (ht_sum (ht_L F ND nd (nI 0) (nI 7)) RE cn)) (ht_m0 F ND RE SF SB cn nd) (f * 7 + b)).2.2.2) LV NR RE ND nd (nI f) (nI b) hcn (by omega)) (cwV 3 hts (lw_V q287 q289 qs21 q27 q290) rfl rfl rfl (by decide +kernel) (by decide)) rfl rfl [0, 1, 2, 3, 4, 5, 6, 7, 8] [] rfl rfl (by decide) (by decide) (by decide) rfl hl.1 rfl (Nat.le_of_ble_eq_true rfl) dX2_split_75 (by decide) (fun r u H locs hp I => ?_)
              subst hp
              have I : ht_I D A s.heap (ht_M ad dA (nI ln) (nI cn) (nI tn) F T ((ht_mf (nI ln) (t * 7 + nd) F ND RE cn nd (nI (ht_cnt (ht_L F ND nd (nI 0) (nI 7)) cn)).toInt64 (Int64.ofInt (ht_sum (ht_L F ND nd (nI 0) (nI 7)) RE cn)) (ht_m0 F ND RE SF SB cn nd) (f * 7 + b)).2.2.1) ((ht_mf (nI ln) (t * 7 + nd) F ND RE cn nd (nI (ht_cnt (ht_L F ND nd (nI 0) (nI 7)) cn)).toInt64 (Int64.ofInt (ht_sum (ht_L F ND nd (nI 0) (nI 7)) RE cn)) (ht_m0 F ND RE SF SB cn nd) (f * 7 + b)).2.2.2) LV NR RE ND) H locs := I
              have e_ := ht_mf_s (nI ln) (t * 7 + nd) F ND RE cn nd (nI (ht_cnt (ht_L F ND nd (nI 0) (nI 7)) cn)).toInt64 (Int64.ofInt (ht_sum (ht_L F ND nd (nI 0) (nI 7)) RE cn)) (ht_m0 F ND RE SF SB cn nd) f b (by omega)
              unfold ht_ms at e_
              refine lv_lstore (lv' := [(16, .long (Int64.ofInt (ht_sum (ht_L F ND nd (nI f) (nI b)) RE cn))), (14, .long ((nI (ht_cnt (ht_L F ND nd (nI f) (nI b)) cn)).toInt64)), (13, .int (nI b)), (12, .int (nI f)), (11, .int (nI (t * 7 + nd))), (9, .long ((ht_mf (nI ln) (t * 7 + nd) F ND RE cn nd (nI (ht_cnt (ht_L F ND nd (nI 0) (nI 7)) cn)).toInt64 (Int64.ofInt (ht_sum (ht_L F ND nd (nI 0) (nI 7)) RE cn)) (ht_m0 F ND RE SF SB cn nd) (f * 7 + b)).2.1)), (7, .long ((ht_mf (nI ln) (t * 7 + nd) F ND RE cn nd (nI (ht_cnt (ht_L F ND nd (nI 0) (nI 7)) cn)).toInt64 (Int64.ofInt (ht_sum (ht_L F ND nd (nI 0) (nI 7)) RE cn)) (ht_m0 F ND RE SF SB cn nd) (f * 7 + b)).1)), (5, .long (Int64.ofInt (ht_sum (ht_L F ND nd (nI 0) (nI 7)) RE cn))), (3, .long ((nI (ht_cnt (ht_L F ND nd (nI 0) (nI 7)) cn)).toInt64)), (0, .ref (ad 0)), (1, .int (nI t)), (2, .int (nI nd))]) hx hb dX2_split_78 hl (by decide) rfl (fun ls hl => ?_)
              refine lv_lload_n hx hb dX2_split_80 rfl (lv_at hl 8 rfl) ?_
              refine lv_lload hx hb dX2_split_81 (lv_at hl 1 rfl) ?_
              refine lv_lsub hx hb dX2_split_83 ?_
              refine lv_lstore (lv' := [(18, .long (((nI (ht_cnt (ht_L F ND nd (nI 0) (nI 7)) cn)).toInt64) - ((nI (ht_cnt (ht_L F ND nd (nI f) (nI b)) cn)).toInt64))), (16, .long (Int64.ofInt (ht_sum (ht_L F ND nd (nI f) (nI b)) RE cn))), (14, .long ((nI (ht_cnt (ht_L F ND nd (nI f) (nI b)) cn)).toInt64)), (13, .int (nI b)), (12, .int (nI f)), (11, .int (nI (t * 7 + nd))), (9, .long ((ht_mf (nI ln) (t * 7 + nd) F ND RE cn nd (nI (ht_cnt (ht_L F ND nd (nI 0) (nI 7)) cn)).toInt64 (Int64.ofInt (ht_sum (ht_L F ND nd (nI 0) (nI 7)) RE cn)) (ht_m0 F ND RE SF SB cn nd) (f * 7 + b)).2.1)), (7, .long ((ht_mf (nI ln) (t * 7 + nd) F ND RE cn nd (nI (ht_cnt (ht_L F ND nd (nI 0) (nI 7)) cn)).toInt64 (Int64.ofInt (ht_sum (ht_L F ND nd (nI 0) (nI 7)) RE cn)) (ht_m0 F ND RE SF SB cn nd) (f * 7 + b)).1)), (5, .long (Int64.ofInt (ht_sum (ht_L F ND nd (nI 0) (nI 7)) RE cn))), (3, .long ((nI (ht_cnt (ht_L F ND nd (nI 0) (nI 7)) cn)).toInt64)), (0, .ref (ad 0)), (1, .int (nI t)), (2, .int (nI nd))]) hx hb dX2_split_84 hl (by decide) rfl (fun ls hl => ?_)
              refine lv_lload hx hb dX2_split_86 (lv_at hl 8 rfl) ?_
              refine lv_lload hx hb dX2_split_88 (lv_at hl 1 rfl) ?_
              refine lv_lsub hx hb dX2_split_90 ?_
              refine lv_lstore (lv' := [(20, .long ((Int64.ofInt (ht_sum (ht_L F ND nd (nI 0) (nI 7)) RE cn)) - (Int64.ofInt (ht_sum (ht_L F ND nd (nI f) (nI b)) RE cn)))), (18, .long (((nI (ht_cnt (ht_L F ND nd (nI 0) (nI 7)) cn)).toInt64) - ((nI (ht_cnt (ht_L F ND nd (nI f) (nI b)) cn)).toInt64))), (16, .long (Int64.ofInt (ht_sum (ht_L F ND nd (nI f) (nI b)) RE cn))), (14, .long ((nI (ht_cnt (ht_L F ND nd (nI f) (nI b)) cn)).toInt64)), (13, .int (nI b)), (12, .int (nI f)), (11, .int (nI (t * 7 + nd))), (9, .long ((ht_mf (nI ln) (t * 7 + nd) F ND RE cn nd (nI (ht_cnt (ht_L F ND nd (nI 0) (nI 7)) cn)).toInt64 (Int64.ofInt (ht_sum (ht_L F ND nd (nI 0) (nI 7)) RE cn)) (ht_m0 F ND RE SF SB cn nd) (f * 7 + b)).2.1)), (7, .long ((ht_mf (nI ln) (t * 7 + nd) F ND RE cn nd (nI (ht_cnt (ht_L F ND nd (nI 0) (nI 7)) cn)).toInt64 (Int64.ofInt (ht_sum (ht_L F ND nd (nI 0) (nI 7)) RE cn)) (ht_m0 F ND RE SF SB cn nd) (f * 7 + b)).1)), (5, .long (Int64.ofInt (ht_sum (ht_L F ND nd (nI 0) (nI 7)) RE cn))), (3, .long ((nI (ht_cnt (ht_L F ND nd (nI 0) (nI 7)) cn)).toInt64)), (0, .ref (ad 0)), (1, .int (nI t)), (2, .int (nI nd))]) hx hb dX2_split_91 hl (by decide) rfl (fun ls hl => ?_)
              refine lv_lload hx hb dX2_split_93 (lv_at hl 2 rfl) ?_
              refine lv_lload hx hb dX2_split_95 (lv_at hl 2 rfl) ?_
              refine lv_lmul hx hb dX2_split_97 ?_
              refine lv_lload hx hb dX2_split_98 (lv_at hl 1 rfl) ?_
              refine lv_lmul hx hb dX2_split_100 ?_
              refine lv_lload hx hb dX2_split_101 (lv_at hl 0 rfl) ?_
              refine lv_lload hx hb dX2_split_103 (lv_at hl 0 rfl) ?_
              refine lv_lmul hx hb dX2_split_105 ?_
              refine lv_lload hx hb dX2_split_106 (lv_at hl 3 rfl) ?_
              refine lv_lmul hx hb dX2_split_108 ?_
              refine lv_ladd hx hb dX2_split_109 ?_
              refine lv_lstore (lv' := [(22, .long ((((Int64.ofInt (ht_sum (ht_L F ND nd (nI f) (nI b)) RE cn)) * (Int64.ofInt (ht_sum (ht_L F ND nd (nI f) (nI b)) RE cn))) * (((nI (ht_cnt (ht_L F ND nd (nI 0) (nI 7)) cn)).toInt64) - ((nI (ht_cnt (ht_L F ND nd (nI f) (nI b)) cn)).toInt64))) + ((((Int64.ofInt (ht_sum (ht_L F ND nd (nI 0) (nI 7)) RE cn)) - (Int64.ofInt (ht_sum (ht_L F ND nd (nI f) (nI b)) RE cn))) * ((Int64.ofInt (ht_sum (ht_L F ND nd (nI 0) (nI 7)) RE cn)) - (Int64.ofInt (ht_sum (ht_L F ND nd (nI f) (nI b)) RE cn)))) * ((nI (ht_cnt (ht_L F ND nd (nI f) (nI b)) cn)).toInt64)))), (20, .long ((Int64.ofInt (ht_sum (ht_L F ND nd (nI 0) (nI 7)) RE cn)) - (Int64.ofInt (ht_sum (ht_L F ND nd (nI f) (nI b)) RE cn)))), (18, .long (((nI (ht_cnt (ht_L F ND nd (nI 0) (nI 7)) cn)).toInt64) - ((nI (ht_cnt (ht_L F ND nd (nI f) (nI b)) cn)).toInt64))), (16, .long (Int64.ofInt (ht_sum (ht_L F ND nd (nI f) (nI b)) RE cn))), (14, .long ((nI (ht_cnt (ht_L F ND nd (nI f) (nI b)) cn)).toInt64)), (13, .int (nI b)), (12, .int (nI f)), (11, .int (nI (t * 7 + nd))), (9, .long ((ht_mf (nI ln) (t * 7 + nd) F ND RE cn nd (nI (ht_cnt (ht_L F ND nd (nI 0) (nI 7)) cn)).toInt64 (Int64.ofInt (ht_sum (ht_L F ND nd (nI 0) (nI 7)) RE cn)) (ht_m0 F ND RE SF SB cn nd) (f * 7 + b)).2.1)), (7, .long ((ht_mf (nI ln) (t * 7 + nd) F ND RE cn nd (nI (ht_cnt (ht_L F ND nd (nI 0) (nI 7)) cn)).toInt64 (Int64.ofInt (ht_sum (ht_L F ND nd (nI 0) (nI 7)) RE cn)) (ht_m0 F ND RE SF SB cn nd) (f * 7 + b)).1)), (5, .long (Int64.ofInt (ht_sum (ht_L F ND nd (nI 0) (nI 7)) RE cn))), (3, .long ((nI (ht_cnt (ht_L F ND nd (nI 0) (nI 7)) cn)).toInt64)), (0, .ref (ad 0)), (1, .int (nI t)), (2, .int (nI nd))]) hx hb dX2_split_110 hl (by decide) rfl (fun ls hl => ?_)
              refine lv_lload hx hb dX2_split_112 (lv_at hl 4 rfl) ?_
              refine lv_aload_n hx hb dX2_split_114 rfl (lv_at hl 12 rfl) ?_
              refine ht_getM hx hb hts hown hK I 0 (by decide) q213 rfl rfl dX2_split_115 ?_
              refine lv_i2l (v := (nI ln).toInt64) hx hb dX2_split_118 rfl ?_
              refine W.lcmp hx hb dX2_split_119 ?_
              refine lv_if_lt (tgt := 180) hx hb dX2_split_120 (by decide) (fun c_6 => ?_) (fun c_6 => ?_)
              · have c_6 := (lg_cmp_lt _ _).mp c_6
                rw [if_pos c_6] at e_
                refine lv_iinc (v := (nI (b + 1))) (lv' := [(13, .int (nI (b + 1))), (22, .long ((((Int64.ofInt (ht_sum (ht_L F ND nd (nI f) (nI b)) RE cn)) * (Int64.ofInt (ht_sum (ht_L F ND nd (nI f) (nI b)) RE cn))) * (((nI (ht_cnt (ht_L F ND nd (nI 0) (nI 7)) cn)).toInt64) - ((nI (ht_cnt (ht_L F ND nd (nI f) (nI b)) cn)).toInt64))) + ((((Int64.ofInt (ht_sum (ht_L F ND nd (nI 0) (nI 7)) RE cn)) - (Int64.ofInt (ht_sum (ht_L F ND nd (nI f) (nI b)) RE cn))) * ((Int64.ofInt (ht_sum (ht_L F ND nd (nI 0) (nI 7)) RE cn)) - (Int64.ofInt (ht_sum (ht_L F ND nd (nI f) (nI b)) RE cn)))) * ((nI (ht_cnt (ht_L F ND nd (nI f) (nI b)) cn)).toInt64)))), (20, .long ((Int64.ofInt (ht_sum (ht_L F ND nd (nI 0) (nI 7)) RE cn)) - (Int64.ofInt (ht_sum (ht_L F ND nd (nI f) (nI b)) RE cn)))), (18, .long (((nI (ht_cnt (ht_L F ND nd (nI 0) (nI 7)) cn)).toInt64) - ((nI (ht_cnt (ht_L F ND nd (nI f) (nI b)) cn)).toInt64))), (16, .long (Int64.ofInt (ht_sum (ht_L F ND nd (nI f) (nI b)) RE cn))), (14, .long ((nI (ht_cnt (ht_L F ND nd (nI f) (nI b)) cn)).toInt64)), (12, .int (nI f)), (11, .int (nI (t * 7 + nd))), (9, .long ((ht_mf (nI ln) (t * 7 + nd) F ND RE cn nd (nI (ht_cnt (ht_L F ND nd (nI 0) (nI 7)) cn)).toInt64 (Int64.ofInt (ht_sum (ht_L F ND nd (nI 0) (nI 7)) RE cn)) (ht_m0 F ND RE SF SB cn nd) (f * 7 + b)).2.1)), (7, .long ((ht_mf (nI ln) (t * 7 + nd) F ND RE cn nd (nI (ht_cnt (ht_L F ND nd (nI 0) (nI 7)) cn)).toInt64 (Int64.ofInt (ht_sum (ht_L F ND nd (nI 0) (nI 7)) RE cn)) (ht_m0 F ND RE SF SB cn nd) (f * 7 + b)).1)), (5, .long (Int64.ofInt (ht_sum (ht_L F ND nd (nI 0) (nI 7)) RE cn))), (3, .long ((nI (ht_cnt (ht_L F ND nd (nI 0) (nI 7)) cn)).toInt64)), (0, .ref (ad 0)), (1, .int (nI t)), (2, .int (nI nd))]) hx hb dX2_split_180 hl (k := 5) rfl (nI_add b 1) (by decide) rfl (fun ls hl => ?_)
                refine lv_goto (tgt := 50) hx hb dX2_split_183 (by decide) ?_
                rw [← e_] at I hl
                exact ih2 (b + 1) (by omega) _ _ I ls (lv_sub hl [0, 6, 7, 8, 9, 10, 11, 12, 13, 14] rfl)
              · have c_6 := fun q => c_6 ((lg_cmp_lt ((nI (ht_cnt (ht_L F ND nd (nI f) (nI b)) cn)).toInt64) ((nI ln).toInt64)).mpr q)
                refine lv_lload hx hb dX2_split_123 (lv_at hl 2 rfl) ?_
                refine lv_aload_n hx hb dX2_split_125 rfl (lv_at hl 12 rfl) ?_
                refine ht_getM hx hb hts hown hK I 0 (by decide) q213 rfl rfl dX2_split_126 ?_
                refine lv_i2l (v := (nI ln).toInt64) hx hb dX2_split_129 rfl ?_
                refine W.lcmp hx hb dX2_split_130 ?_
                refine lv_if_lt (tgt := 180) hx hb dX2_split_131 (by decide) (fun c_7 => ?_) (fun c_7 => ?_)
                · have c_7 := (lg_cmp_lt _ _).mp c_7
                  rw [if_neg c_6, if_pos c_7] at e_
                  refine lv_iinc (v := (nI (b + 1))) (lv' := [(13, .int (nI (b + 1))), (22, .long ((((Int64.ofInt (ht_sum (ht_L F ND nd (nI f) (nI b)) RE cn)) * (Int64.ofInt (ht_sum (ht_L F ND nd (nI f) (nI b)) RE cn))) * (((nI (ht_cnt (ht_L F ND nd (nI 0) (nI 7)) cn)).toInt64) - ((nI (ht_cnt (ht_L F ND nd (nI f) (nI b)) cn)).toInt64))) + ((((Int64.ofInt (ht_sum (ht_L F ND nd (nI 0) (nI 7)) RE cn)) - (Int64.ofInt (ht_sum (ht_L F ND nd (nI f) (nI b)) RE cn))) * ((Int64.ofInt (ht_sum (ht_L F ND nd (nI 0) (nI 7)) RE cn)) - (Int64.ofInt (ht_sum (ht_L F ND nd (nI f) (nI b)) RE cn)))) * ((nI (ht_cnt (ht_L F ND nd (nI f) (nI b)) cn)).toInt64)))), (20, .long ((Int64.ofInt (ht_sum (ht_L F ND nd (nI 0) (nI 7)) RE cn)) - (Int64.ofInt (ht_sum (ht_L F ND nd (nI f) (nI b)) RE cn)))), (18, .long (((nI (ht_cnt (ht_L F ND nd (nI 0) (nI 7)) cn)).toInt64) - ((nI (ht_cnt (ht_L F ND nd (nI f) (nI b)) cn)).toInt64))), (16, .long (Int64.ofInt (ht_sum (ht_L F ND nd (nI f) (nI b)) RE cn))), (14, .long ((nI (ht_cnt (ht_L F ND nd (nI f) (nI b)) cn)).toInt64)), (12, .int (nI f)), (11, .int (nI (t * 7 + nd))), (9, .long ((ht_mf (nI ln) (t * 7 + nd) F ND RE cn nd (nI (ht_cnt (ht_L F ND nd (nI 0) (nI 7)) cn)).toInt64 (Int64.ofInt (ht_sum (ht_L F ND nd (nI 0) (nI 7)) RE cn)) (ht_m0 F ND RE SF SB cn nd) (f * 7 + b)).2.1)), (7, .long ((ht_mf (nI ln) (t * 7 + nd) F ND RE cn nd (nI (ht_cnt (ht_L F ND nd (nI 0) (nI 7)) cn)).toInt64 (Int64.ofInt (ht_sum (ht_L F ND nd (nI 0) (nI 7)) RE cn)) (ht_m0 F ND RE SF SB cn nd) (f * 7 + b)).1)), (5, .long (Int64.ofInt (ht_sum (ht_L F ND nd (nI 0) (nI 7)) RE cn))), (3, .long ((nI (ht_cnt (ht_L F ND nd (nI 0) (nI 7)) cn)).toInt64)), (0, .ref (ad 0)), (1, .int (nI t)), (2, .int (nI nd))]) hx hb dX2_split_180 hl (k := 5) rfl (nI_add b 1) (by decide) rfl (fun ls hl => ?_)
                  refine lv_goto (tgt := 50) hx hb dX2_split_183 (by decide) ?_
                  rw [← e_] at I hl
                  exact ih2 (b + 1) (by omega) _ _ I ls (lv_sub hl [0, 6, 7, 8, 9, 10, 11, 12, 13, 14] rfl)
                · have c_7 := fun q => c_7 ((lg_cmp_lt (((nI (ht_cnt (ht_L F ND nd (nI 0) (nI 7)) cn)).toInt64) - ((nI (ht_cnt (ht_L F ND nd (nI f) (nI b)) cn)).toInt64)) ((nI ln).toInt64)).mpr q)
                  refine lv_lload hx hb dX2_split_134 (lv_at hl 0 rfl) ?_
                  refine lv_lload hx hb dX2_split_136 (lv_at hl 8 rfl) ?_
                  refine lv_lmul hx hb dX2_split_138 ?_
                  refine lv_lload hx hb dX2_split_139 (lv_at hl 9 rfl) ?_
                  refine lv_lload hx hb dX2_split_141 (lv_at hl 4 rfl) ?_
                  refine lv_lmul hx hb dX2_split_143 ?_
                  refine lv_lload hx hb dX2_split_144 (lv_at hl 2 rfl) ?_
                  refine lv_lmul hx hb dX2_split_146 ?_
                  refine W.lcmp hx hb dX2_split_147 ?_
                  refine lv_if_le (tgt := 180) hx hb dX2_split_148 (by decide) (fun c_8 => ?_) (fun c_8 => ?_)
                  · have c_8 := (lg_cmp_le _ _).mp c_8
                    rw [if_neg c_6, if_neg c_7, if_pos c_8] at e_
                    refine lv_iinc (v := (nI (b + 1))) (lv' := [(13, .int (nI (b + 1))), (22, .long ((((Int64.ofInt (ht_sum (ht_L F ND nd (nI f) (nI b)) RE cn)) * (Int64.ofInt (ht_sum (ht_L F ND nd (nI f) (nI b)) RE cn))) * (((nI (ht_cnt (ht_L F ND nd (nI 0) (nI 7)) cn)).toInt64) - ((nI (ht_cnt (ht_L F ND nd (nI f) (nI b)) cn)).toInt64))) + ((((Int64.ofInt (ht_sum (ht_L F ND nd (nI 0) (nI 7)) RE cn)) - (Int64.ofInt (ht_sum (ht_L F ND nd (nI f) (nI b)) RE cn))) * ((Int64.ofInt (ht_sum (ht_L F ND nd (nI 0) (nI 7)) RE cn)) - (Int64.ofInt (ht_sum (ht_L F ND nd (nI f) (nI b)) RE cn)))) * ((nI (ht_cnt (ht_L F ND nd (nI f) (nI b)) cn)).toInt64)))), (20, .long ((Int64.ofInt (ht_sum (ht_L F ND nd (nI 0) (nI 7)) RE cn)) - (Int64.ofInt (ht_sum (ht_L F ND nd (nI f) (nI b)) RE cn)))), (18, .long (((nI (ht_cnt (ht_L F ND nd (nI 0) (nI 7)) cn)).toInt64) - ((nI (ht_cnt (ht_L F ND nd (nI f) (nI b)) cn)).toInt64))), (16, .long (Int64.ofInt (ht_sum (ht_L F ND nd (nI f) (nI b)) RE cn))), (14, .long ((nI (ht_cnt (ht_L F ND nd (nI f) (nI b)) cn)).toInt64)), (12, .int (nI f)), (11, .int (nI (t * 7 + nd))), (9, .long ((ht_mf (nI ln) (t * 7 + nd) F ND RE cn nd (nI (ht_cnt (ht_L F ND nd (nI 0) (nI 7)) cn)).toInt64 (Int64.ofInt (ht_sum (ht_L F ND nd (nI 0) (nI 7)) RE cn)) (ht_m0 F ND RE SF SB cn nd) (f * 7 + b)).2.1)), (7, .long ((ht_mf (nI ln) (t * 7 + nd) F ND RE cn nd (nI (ht_cnt (ht_L F ND nd (nI 0) (nI 7)) cn)).toInt64 (Int64.ofInt (ht_sum (ht_L F ND nd (nI 0) (nI 7)) RE cn)) (ht_m0 F ND RE SF SB cn nd) (f * 7 + b)).1)), (5, .long (Int64.ofInt (ht_sum (ht_L F ND nd (nI 0) (nI 7)) RE cn))), (3, .long ((nI (ht_cnt (ht_L F ND nd (nI 0) (nI 7)) cn)).toInt64)), (0, .ref (ad 0)), (1, .int (nI t)), (2, .int (nI nd))]) hx hb dX2_split_180 hl (k := 5) rfl (nI_add b 1) (by decide) rfl (fun ls hl => ?_)
                    refine lv_goto (tgt := 50) hx hb dX2_split_183 (by decide) ?_
                    rw [← e_] at I hl
                    exact ih2 (b + 1) (by omega) _ _ I ls (lv_sub hl [0, 6, 7, 8, 9, 10, 11, 12, 13, 14] rfl)
                  · have c_8 := fun q => c_8 ((lg_cmp_le (((((Int64.ofInt (ht_sum (ht_L F ND nd (nI f) (nI b)) RE cn)) * (Int64.ofInt (ht_sum (ht_L F ND nd (nI f) (nI b)) RE cn))) * (((nI (ht_cnt (ht_L F ND nd (nI 0) (nI 7)) cn)).toInt64) - ((nI (ht_cnt (ht_L F ND nd (nI f) (nI b)) cn)).toInt64))) + ((((Int64.ofInt (ht_sum (ht_L F ND nd (nI 0) (nI 7)) RE cn)) - (Int64.ofInt (ht_sum (ht_L F ND nd (nI f) (nI b)) RE cn))) * ((Int64.ofInt (ht_sum (ht_L F ND nd (nI 0) (nI 7)) RE cn)) - (Int64.ofInt (ht_sum (ht_L F ND nd (nI f) (nI b)) RE cn)))) * ((nI (ht_cnt (ht_L F ND nd (nI f) (nI b)) cn)).toInt64))) * ((ht_mf (nI ln) (t * 7 + nd) F ND RE cn nd (nI (ht_cnt (ht_L F ND nd (nI 0) (nI 7)) cn)).toInt64 (Int64.ofInt (ht_sum (ht_L F ND nd (nI 0) (nI 7)) RE cn)) (ht_m0 F ND RE SF SB cn nd) (f * 7 + b)).2.1)) ((((ht_mf (nI ln) (t * 7 + nd) F ND RE cn nd (nI (ht_cnt (ht_L F ND nd (nI 0) (nI 7)) cn)).toInt64 (Int64.ofInt (ht_sum (ht_L F ND nd (nI 0) (nI 7)) RE cn)) (ht_m0 F ND RE SF SB cn nd) (f * 7 + b)).1) * ((nI (ht_cnt (ht_L F ND nd (nI f) (nI b)) cn)).toInt64)) * (((nI (ht_cnt (ht_L F ND nd (nI 0) (nI 7)) cn)).toInt64) - ((nI (ht_cnt (ht_L F ND nd (nI f) (nI b)) cn)).toInt64)))).mpr q)
                    rw [if_neg c_6, if_neg c_7, if_neg c_8] at e_
                    refine lv_lload hx hb dX2_split_151 (lv_at hl 0 rfl) ?_
                    refine lv_lstore (lv' := [(7, .long ((((Int64.ofInt (ht_sum (ht_L F ND nd (nI f) (nI b)) RE cn)) * (Int64.ofInt (ht_sum (ht_L F ND nd (nI f) (nI b)) RE cn))) * (((nI (ht_cnt (ht_L F ND nd (nI 0) (nI 7)) cn)).toInt64) - ((nI (ht_cnt (ht_L F ND nd (nI f) (nI b)) cn)).toInt64))) + ((((Int64.ofInt (ht_sum (ht_L F ND nd (nI 0) (nI 7)) RE cn)) - (Int64.ofInt (ht_sum (ht_L F ND nd (nI f) (nI b)) RE cn))) * ((Int64.ofInt (ht_sum (ht_L F ND nd (nI 0) (nI 7)) RE cn)) - (Int64.ofInt (ht_sum (ht_L F ND nd (nI f) (nI b)) RE cn)))) * ((nI (ht_cnt (ht_L F ND nd (nI f) (nI b)) cn)).toInt64)))), (22, .long ((((Int64.ofInt (ht_sum (ht_L F ND nd (nI f) (nI b)) RE cn)) * (Int64.ofInt (ht_sum (ht_L F ND nd (nI f) (nI b)) RE cn))) * (((nI (ht_cnt (ht_L F ND nd (nI 0) (nI 7)) cn)).toInt64) - ((nI (ht_cnt (ht_L F ND nd (nI f) (nI b)) cn)).toInt64))) + ((((Int64.ofInt (ht_sum (ht_L F ND nd (nI 0) (nI 7)) RE cn)) - (Int64.ofInt (ht_sum (ht_L F ND nd (nI f) (nI b)) RE cn))) * ((Int64.ofInt (ht_sum (ht_L F ND nd (nI 0) (nI 7)) RE cn)) - (Int64.ofInt (ht_sum (ht_L F ND nd (nI f) (nI b)) RE cn)))) * ((nI (ht_cnt (ht_L F ND nd (nI f) (nI b)) cn)).toInt64)))), (20, .long ((Int64.ofInt (ht_sum (ht_L F ND nd (nI 0) (nI 7)) RE cn)) - (Int64.ofInt (ht_sum (ht_L F ND nd (nI f) (nI b)) RE cn)))), (18, .long (((nI (ht_cnt (ht_L F ND nd (nI 0) (nI 7)) cn)).toInt64) - ((nI (ht_cnt (ht_L F ND nd (nI f) (nI b)) cn)).toInt64))), (16, .long (Int64.ofInt (ht_sum (ht_L F ND nd (nI f) (nI b)) RE cn))), (14, .long ((nI (ht_cnt (ht_L F ND nd (nI f) (nI b)) cn)).toInt64)), (13, .int (nI b)), (12, .int (nI f)), (11, .int (nI (t * 7 + nd))), (9, .long ((ht_mf (nI ln) (t * 7 + nd) F ND RE cn nd (nI (ht_cnt (ht_L F ND nd (nI 0) (nI 7)) cn)).toInt64 (Int64.ofInt (ht_sum (ht_L F ND nd (nI 0) (nI 7)) RE cn)) (ht_m0 F ND RE SF SB cn nd) (f * 7 + b)).2.1)), (5, .long (Int64.ofInt (ht_sum (ht_L F ND nd (nI 0) (nI 7)) RE cn))), (3, .long ((nI (ht_cnt (ht_L F ND nd (nI 0) (nI 7)) cn)).toInt64)), (0, .ref (ad 0)), (1, .int (nI t)), (2, .int (nI nd))]) hx hb dX2_split_153 hl (by decide) rfl (fun ls hl => ?_)
                    refine lv_lload hx hb dX2_split_155 (lv_at hl 5 rfl) ?_
                    refine lv_lload hx hb dX2_split_157 (lv_at hl 3 rfl) ?_
                    refine lv_lmul hx hb dX2_split_159 ?_
                    refine lv_lstore (lv' := [(9, .long (((nI (ht_cnt (ht_L F ND nd (nI f) (nI b)) cn)).toInt64) * (((nI (ht_cnt (ht_L F ND nd (nI 0) (nI 7)) cn)).toInt64) - ((nI (ht_cnt (ht_L F ND nd (nI f) (nI b)) cn)).toInt64)))), (7, .long ((((Int64.ofInt (ht_sum (ht_L F ND nd (nI f) (nI b)) RE cn)) * (Int64.ofInt (ht_sum (ht_L F ND nd (nI f) (nI b)) RE cn))) * (((nI (ht_cnt (ht_L F ND nd (nI 0) (nI 7)) cn)).toInt64) - ((nI (ht_cnt (ht_L F ND nd (nI f) (nI b)) cn)).toInt64))) + ((((Int64.ofInt (ht_sum (ht_L F ND nd (nI 0) (nI 7)) RE cn)) - (Int64.ofInt (ht_sum (ht_L F ND nd (nI f) (nI b)) RE cn))) * ((Int64.ofInt (ht_sum (ht_L F ND nd (nI 0) (nI 7)) RE cn)) - (Int64.ofInt (ht_sum (ht_L F ND nd (nI f) (nI b)) RE cn)))) * ((nI (ht_cnt (ht_L F ND nd (nI f) (nI b)) cn)).toInt64)))), (22, .long ((((Int64.ofInt (ht_sum (ht_L F ND nd (nI f) (nI b)) RE cn)) * (Int64.ofInt (ht_sum (ht_L F ND nd (nI f) (nI b)) RE cn))) * (((nI (ht_cnt (ht_L F ND nd (nI 0) (nI 7)) cn)).toInt64) - ((nI (ht_cnt (ht_L F ND nd (nI f) (nI b)) cn)).toInt64))) + ((((Int64.ofInt (ht_sum (ht_L F ND nd (nI 0) (nI 7)) RE cn)) - (Int64.ofInt (ht_sum (ht_L F ND nd (nI f) (nI b)) RE cn))) * ((Int64.ofInt (ht_sum (ht_L F ND nd (nI 0) (nI 7)) RE cn)) - (Int64.ofInt (ht_sum (ht_L F ND nd (nI f) (nI b)) RE cn)))) * ((nI (ht_cnt (ht_L F ND nd (nI f) (nI b)) cn)).toInt64)))), (20, .long ((Int64.ofInt (ht_sum (ht_L F ND nd (nI 0) (nI 7)) RE cn)) - (Int64.ofInt (ht_sum (ht_L F ND nd (nI f) (nI b)) RE cn)))), (18, .long (((nI (ht_cnt (ht_L F ND nd (nI 0) (nI 7)) cn)).toInt64) - ((nI (ht_cnt (ht_L F ND nd (nI f) (nI b)) cn)).toInt64))), (16, .long (Int64.ofInt (ht_sum (ht_L F ND nd (nI f) (nI b)) RE cn))), (14, .long ((nI (ht_cnt (ht_L F ND nd (nI f) (nI b)) cn)).toInt64)), (13, .int (nI b)), (12, .int (nI f)), (11, .int (nI (t * 7 + nd))), (5, .long (Int64.ofInt (ht_sum (ht_L F ND nd (nI 0) (nI 7)) RE cn))), (3, .long ((nI (ht_cnt (ht_L F ND nd (nI 0) (nI 7)) cn)).toInt64)), (0, .ref (ad 0)), (1, .int (nI t)), (2, .int (nI nd))]) hx hb dX2_split_160 hl (by decide) rfl (fun ls hl => ?_)
                    refine lv_aload_n hx hb dX2_split_162 rfl (lv_at hl 12 rfl) ?_
                    refine ht_getM hx hb hts hown hK I 5 (by decide) q218 rfl rfl dX2_split_163 ?_
                    refine lv_iload hx hb dX2_split_166 (lv_at hl 9 rfl) ?_
                    refine lv_iload hx hb dX2_split_168 (lv_at hl 8 rfl) ?_
                    refine ht_ast (w3 := ht_M ad dA (nI ln) (nI cn) (nI tn) F T (upd ((ht_mf (nI ln) (t * 7 + nd) F ND RE cn nd (nI (ht_cnt (ht_L F ND nd (nI 0) (nI 7)) cn)).toInt64 (Int64.ofInt (ht_sum (ht_L F ND nd (nI 0) (nI 7)) RE cn)) (ht_m0 F ND RE SF SB cn nd) (f * 7 + b)).2.2.1) (t * 7 + nd) (nI f)) ((ht_mf (nI ln) (t * 7 + nd) F ND RE cn nd (nI (ht_cnt (ht_L F ND nd (nI 0) (nI 7)) cn)).toInt64 (Int64.ofInt (ht_sum (ht_L F ND nd (nI 0) (nI 7)) RE cn)) (ht_m0 F ND RE SF SB cn nd) (f * 7 + b)).2.2.2) LV NR RE ND) hx hb hK I 3 rfl (by omega) rfl dX2_split_170 (fun H locs I => ?_)
                    refine lv_aload_n hx hb dX2_split_171 rfl (lv_at hl 12 rfl) ?_
                    refine ht_getM hx hb hts hown hK I 6 (by decide) q219 rfl rfl dX2_split_172 ?_
                    refine lv_iload hx hb dX2_split_175 (lv_at hl 9 rfl) ?_
                    refine lv_iload hx hb dX2_split_177 (lv_at hl 7 rfl) ?_
                    refine ht_ast (w3 := ht_M ad dA (nI ln) (nI cn) (nI tn) F T (upd ((ht_mf (nI ln) (t * 7 + nd) F ND RE cn nd (nI (ht_cnt (ht_L F ND nd (nI 0) (nI 7)) cn)).toInt64 (Int64.ofInt (ht_sum (ht_L F ND nd (nI 0) (nI 7)) RE cn)) (ht_m0 F ND RE SF SB cn nd) (f * 7 + b)).2.2.1) (t * 7 + nd) (nI f)) (upd ((ht_mf (nI ln) (t * 7 + nd) F ND RE cn nd (nI (ht_cnt (ht_L F ND nd (nI 0) (nI 7)) cn)).toInt64 (Int64.ofInt (ht_sum (ht_L F ND nd (nI 0) (nI 7)) RE cn)) (ht_m0 F ND RE SF SB cn nd) (f * 7 + b)).2.2.2) (t * 7 + nd) (nI b)) LV NR RE ND) hx hb hK I 4 rfl (by omega) rfl dX2_split_179 (fun H locs I => ?_)
                    refine lv_iinc (v := (nI (b + 1))) (lv' := [(13, .int (nI (b + 1))), (9, .long (((nI (ht_cnt (ht_L F ND nd (nI f) (nI b)) cn)).toInt64) * (((nI (ht_cnt (ht_L F ND nd (nI 0) (nI 7)) cn)).toInt64) - ((nI (ht_cnt (ht_L F ND nd (nI f) (nI b)) cn)).toInt64)))), (7, .long ((((Int64.ofInt (ht_sum (ht_L F ND nd (nI f) (nI b)) RE cn)) * (Int64.ofInt (ht_sum (ht_L F ND nd (nI f) (nI b)) RE cn))) * (((nI (ht_cnt (ht_L F ND nd (nI 0) (nI 7)) cn)).toInt64) - ((nI (ht_cnt (ht_L F ND nd (nI f) (nI b)) cn)).toInt64))) + ((((Int64.ofInt (ht_sum (ht_L F ND nd (nI 0) (nI 7)) RE cn)) - (Int64.ofInt (ht_sum (ht_L F ND nd (nI f) (nI b)) RE cn))) * ((Int64.ofInt (ht_sum (ht_L F ND nd (nI 0) (nI 7)) RE cn)) - (Int64.ofInt (ht_sum (ht_L F ND nd (nI f) (nI b)) RE cn)))) * ((nI (ht_cnt (ht_L F ND nd (nI f) (nI b)) cn)).toInt64)))), (22, .long ((((Int64.ofInt (ht_sum (ht_L F ND nd (nI f) (nI b)) RE cn)) * (Int64.ofInt (ht_sum (ht_L F ND nd (nI f) (nI b)) RE cn))) * (((nI (ht_cnt (ht_L F ND nd (nI 0) (nI 7)) cn)).toInt64) - ((nI (ht_cnt (ht_L F ND nd (nI f) (nI b)) cn)).toInt64))) + ((((Int64.ofInt (ht_sum (ht_L F ND nd (nI 0) (nI 7)) RE cn)) - (Int64.ofInt (ht_sum (ht_L F ND nd (nI f) (nI b)) RE cn))) * ((Int64.ofInt (ht_sum (ht_L F ND nd (nI 0) (nI 7)) RE cn)) - (Int64.ofInt (ht_sum (ht_L F ND nd (nI f) (nI b)) RE cn)))) * ((nI (ht_cnt (ht_L F ND nd (nI f) (nI b)) cn)).toInt64)))), (20, .long ((Int64.ofInt (ht_sum (ht_L F ND nd (nI 0) (nI 7)) RE cn)) - (Int64.ofInt (ht_sum (ht_L F ND nd (nI f) (nI b)) RE cn)))), (18, .long (((nI (ht_cnt (ht_L F ND nd (nI 0) (nI 7)) cn)).toInt64) - ((nI (ht_cnt (ht_L F ND nd (nI f) (nI b)) cn)).toInt64))), (16, .long (Int64.ofInt (ht_sum (ht_L F ND nd (nI f) (nI b)) RE cn))), (14, .long ((nI (ht_cnt (ht_L F ND nd (nI f) (nI b)) cn)).toInt64)), (12, .int (nI f)), (11, .int (nI (t * 7 + nd))), (5, .long (Int64.ofInt (ht_sum (ht_L F ND nd (nI 0) (nI 7)) RE cn))), (3, .long ((nI (ht_cnt (ht_L F ND nd (nI 0) (nI 7)) cn)).toInt64)), (0, .ref (ad 0)), (1, .int (nI t)), (2, .int (nI nd))]) hx hb dX2_split_180 hl (k := 7) rfl (nI_add b 1) (by decide) rfl (fun ls hl => ?_)
                    refine lv_goto (tgt := 50) hx hb dX2_split_183 (by decide) ?_
                    have I := I.to (w3 := ht_M ad dA (nI ln) (nI cn) (nI tn) F T ((ht_mf (nI ln) (t * 7 + nd) F ND RE cn nd (nI (ht_cnt (ht_L F ND nd (nI 0) (nI 7)) cn)).toInt64 (Int64.ofInt (ht_sum (ht_L F ND nd (nI 0) (nI 7)) RE cn)) (ht_m0 F ND RE SF SB cn nd) (f * 7 + b + 1)).2.2.1) ((ht_mf (nI ln) (t * 7 + nd) F ND RE cn nd (nI (ht_cnt (ht_L F ND nd (nI 0) (nI 7)) cn)).toInt64 (Int64.ofInt (ht_sum (ht_L F ND nd (nI 0) (nI 7)) RE cn)) (ht_m0 F ND RE SF SB cn nd) (f * 7 + b + 1)).2.2.2) LV NR RE ND) (by rw [e_])
                    exact ih2 (b + 1) (by omega) _ _ I ls (lv_sub hl [0, 8, 9, 1, 2, 10, 11, 12, 13, 14] (by rw [← Nat.add_assoc, e_]; rfl))
        refine lv_iconst (v := nI 0) hx hb dX2_split_47 (by decide) ?_
        refine lv_istore (lv' := [(13, .int (nI 0)), (12, .int (nI f)), (11, .int (nI (t * 7 + nd))), (9, .long ((ht_mf (nI ln) (t * 7 + nd) F ND RE cn nd (nI (ht_cnt (ht_L F ND nd (nI 0) (nI 7)) cn)).toInt64 (Int64.ofInt (ht_sum (ht_L F ND nd (nI 0) (nI 7)) RE cn)) (ht_m0 F ND RE SF SB cn nd) (f * 7)).2.1)), (7, .long ((ht_mf (nI ln) (t * 7 + nd) F ND RE cn nd (nI (ht_cnt (ht_L F ND nd (nI 0) (nI 7)) cn)).toInt64 (Int64.ofInt (ht_sum (ht_L F ND nd (nI 0) (nI 7)) RE cn)) (ht_m0 F ND RE SF SB cn nd) (f * 7)).1)), (5, .long (Int64.ofInt (ht_sum (ht_L F ND nd (nI 0) (nI 7)) RE cn))), (3, .long ((nI (ht_cnt (ht_L F ND nd (nI 0) (nI 7)) cn)).toInt64)), (0, .ref (ad 0)), (1, .int (nI t)), (2, .int (nI nd))]) hx hb dX2_split_48 hl (by decide) rfl (fun ls hl => ?_)
        exact inner 7 0 (by omega) _ _ I ls (lv_sub hl [0, 1, 2, 3, 4, 5, 6, 7, 8, 9] rfl)
  refine lv_aload_n hx hb dX2_split_0 rfl (lv_at hl 0 rfl) ?_
  refine lv_iload_n hx hb dX2_split_1 rfl (lv_at hl 2 rfl) ?_
  refine lv_iconst (v := nI 0) hx hb dX2_split_2 (by decide) ?_
  refine lv_bipush (v := nI 7) hx hb dX2_split_3 (by decide) ?_
  refine ht_callVi (As := [.int (nI nd), .int (nI 0), .int (nI 7)]) (rest := []) (wr := []) (q0 := 0) (ci := 1) hx hb hml hown hts hK hA I (mt_rowsOf l D dA ad ln cn tn F T SF SB LV NR RE ND nd (nI 0) (nI 7) hcn (by omega)) (cwV 3 hts (lw_V q283 q285 qs20 q27 q286) rfl rfl rfl (by decide +kernel) (by decide)) rfl rfl [0, 1, 2, 3, 4, 5, 6, 7, 8] [] rfl rfl (by decide) (by decide) (by decide) rfl hl.1 rfl (Nat.le_of_ble_eq_true rfl) dX2_split_5 (by decide) (fun r u H locs hp I => ?_)
  subst hp
  have I : ht_I D A s.heap (ht_M ad dA (nI ln) (nI cn) (nI tn) F T SF SB LV NR RE ND) H locs := I
  refine lv_i2l (v := (nI (ht_cnt (ht_L F ND nd (nI 0) (nI 7)) cn)).toInt64) hx hb dX2_split_8 rfl ?_
  refine lv_lstore_n (lv' := [(3, .long ((nI (ht_cnt (ht_L F ND nd (nI 0) (nI 7)) cn)).toInt64)), (0, .ref (ad 0)), (1, .int (nI t)), (2, .int (nI nd))]) hx hb dX2_split_9 rfl hl (by decide) rfl (fun ls hl => ?_)
  refine lv_aload_n hx hb dX2_split_10 rfl (lv_at hl 1 rfl) ?_
  refine lv_iload_n hx hb dX2_split_11 rfl (lv_at hl 3 rfl) ?_
  refine lv_iconst (v := nI 0) hx hb dX2_split_12 (by decide) ?_
  refine lv_bipush (v := nI 7) hx hb dX2_split_13 (by decide) ?_
  refine ht_callVl (As := [.int (nI nd), .int (nI 0), .int (nI 7)]) (rest := []) (wr := []) (q0 := 0) (ci := 1) hx hb hml hown hts hK hA I (mt_sumOf l D dA ad ln cn tn F T SF SB LV NR RE ND nd (nI 0) (nI 7) hcn (by omega)) (cwV 3 hts (lw_V q287 q289 qs21 q27 q290) rfl rfl rfl (by decide +kernel) (by decide)) rfl rfl [0, 1, 2, 3, 4, 5, 6, 7, 8] [] rfl rfl (by decide) (by decide) (by decide) rfl hl.1 rfl (Nat.le_of_ble_eq_true rfl) dX2_split_15 (by decide) (fun r u H locs hp I => ?_)
  subst hp
  have I : ht_I D A s.heap (ht_M ad dA (nI ln) (nI cn) (nI tn) F T SF SB LV NR RE ND) H locs := I
  refine lv_lstore (lv' := [(5, .long (Int64.ofInt (ht_sum (ht_L F ND nd (nI 0) (nI 7)) RE cn))), (3, .long ((nI (ht_cnt (ht_L F ND nd (nI 0) (nI 7)) cn)).toInt64)), (0, .ref (ad 0)), (1, .int (nI t)), (2, .int (nI nd))]) hx hb dX2_split_18 hl (by decide) rfl (fun ls hl => ?_)
  refine lv_lload hx hb dX2_split_20 (lv_at hl 0 rfl) ?_
  refine lv_lload hx hb dX2_split_22 (lv_at hl 0 rfl) ?_
  refine lv_lmul hx hb dX2_split_24 ?_
  refine lv_lstore (lv' := [(7, .long ((Int64.ofInt (ht_sum (ht_L F ND nd (nI 0) (nI 7)) RE cn)) * (Int64.ofInt (ht_sum (ht_L F ND nd (nI 0) (nI 7)) RE cn)))), (5, .long (Int64.ofInt (ht_sum (ht_L F ND nd (nI 0) (nI 7)) RE cn))), (3, .long ((nI (ht_cnt (ht_L F ND nd (nI 0) (nI 7)) cn)).toInt64)), (0, .ref (ad 0)), (1, .int (nI t)), (2, .int (nI nd))]) hx hb dX2_split_25 hl (by decide) rfl (fun ls hl => ?_)
  refine lv_lload_n hx hb dX2_split_27 rfl (lv_at hl 2 rfl) ?_
  refine lv_lstore (lv' := [(9, .long ((nI (ht_cnt (ht_L F ND nd (nI 0) (nI 7)) cn)).toInt64)), (7, .long ((Int64.ofInt (ht_sum (ht_L F ND nd (nI 0) (nI 7)) RE cn)) * (Int64.ofInt (ht_sum (ht_L F ND nd (nI 0) (nI 7)) RE cn)))), (5, .long (Int64.ofInt (ht_sum (ht_L F ND nd (nI 0) (nI 7)) RE cn))), (3, .long ((nI (ht_cnt (ht_L F ND nd (nI 0) (nI 7)) cn)).toInt64)), (0, .ref (ad 0)), (1, .int (nI t)), (2, .int (nI nd))]) hx hb dX2_split_28 hl (by decide) rfl (fun ls hl => ?_)
  refine lv_iload_n hx hb dX2_split_30 rfl (lv_at hl 5 rfl) ?_
  refine lv_bipush (v := nI 7) hx hb dX2_split_31 (by decide) ?_
  refine lv_imul hx hb dX2_split_33 ?_
  refine ht_ti (pk_mul t 7) ?_
  refine lv_iload_n hx hb dX2_split_34 rfl (lv_at hl 6 rfl) ?_
  refine lv_iadd hx hb dX2_split_35 ?_
  refine ht_ti (nI_add (t * 7) nd) ?_
  refine lv_istore (lv' := [(11, .int (nI (t * 7 + nd))), (9, .long ((nI (ht_cnt (ht_L F ND nd (nI 0) (nI 7)) cn)).toInt64)), (7, .long ((Int64.ofInt (ht_sum (ht_L F ND nd (nI 0) (nI 7)) RE cn)) * (Int64.ofInt (ht_sum (ht_L F ND nd (nI 0) (nI 7)) RE cn)))), (5, .long (Int64.ofInt (ht_sum (ht_L F ND nd (nI 0) (nI 7)) RE cn))), (3, .long ((nI (ht_cnt (ht_L F ND nd (nI 0) (nI 7)) cn)).toInt64)), (0, .ref (ad 0)), (1, .int (nI t)), (2, .int (nI nd))]) hx hb dX2_split_36 hl (by decide) rfl (fun ls hl => ?_)
  refine lv_iconst (v := nI 0) hx hb dX2_split_38 (by decide) ?_
  refine lv_istore (lv' := [(12, .int (nI 0)), (11, .int (nI (t * 7 + nd))), (9, .long ((nI (ht_cnt (ht_L F ND nd (nI 0) (nI 7)) cn)).toInt64)), (7, .long ((Int64.ofInt (ht_sum (ht_L F ND nd (nI 0) (nI 7)) RE cn)) * (Int64.ofInt (ht_sum (ht_L F ND nd (nI 0) (nI 7)) RE cn)))), (5, .long (Int64.ofInt (ht_sum (ht_L F ND nd (nI 0) (nI 7)) RE cn))), (3, .long ((nI (ht_cnt (ht_L F ND nd (nI 0) (nI 7)) cn)).toInt64)), (0, .ref (ad 0)), (1, .int (nI t)), (2, .int (nI nd))]) hx hb dX2_split_39 hl (by decide) rfl (fun ls hl => ?_)
  exact loop 3 0 (by omega) _ _ I ls (lv_sub hl [0, 1, 2, 3, 4, 5, 6, 7, 8] rfl)
set_option maxHeartbeats 4000000 in
set_option maxRecDepth 100000 in
theorem mt_settle (t nd : Nat) (ht : t < 4) (hnd : nd < 7) (hcn : cn ≤ 24) : ht_MV l D dA yX2_settle (ws_ yX2_settle cX2_settle 6 none) 3 91 [.ref (ad 0), .int (nI t), .int (nI nd)] (ht_M ad dA (nI ln) (nI cn) (nI tn) F T SF SB LV NR RE ND) (S := ht_f3 × ht_f3 × ht_f3 × ht_f3) (fun (u : ht_f3 × ht_f3 × ht_f3 × ht_f3) => (u.1, u.2.1, u.2.2.2) = ht_stl0 (nI ln) F ND RE SF SB cn nd (t * 7 + nd) (ht_cnt (ht_L F ND nd (nI 0) (nI 7)) cn) ∧ u.2.2.1 = ht_stl1 LV (t * 7 + nd) (ht_cnt (ht_L F ND nd (nI 0) (nI 7)) cn) (Int64.ofInt (ht_sum (ht_L F ND nd (nI 0) (nI 7)) RE cn)).toInt32 (u.1, u.2.1, u.2.2.2)) (fun (u : ht_f3 × ht_f3 × ht_f3 × ht_f3) => ht_M ad dA (nI ln) (nI cn) (nI tn) F T u.1 u.2.1 u.2.2.1 (upd NR (t * 7 + nd) (nI (ht_cnt (ht_L F ND nd (nI 0) (nI 7)) cn))) RE u.2.2.2) := by
  refine ht_MV_of (by decide) (Nat.le_of_ble_eq_true rfl) ?_
  intro p e s m below meth c A hx hb hr hlk hml hown hts hK hA I ls hl
  have hown : s.vm.findClass RX2 = some m.cls := hown
  have hl : lv_has ls 6 [(0, .ref (ad 0)), (1, .int (nI t)), (2, .int (nI nd))] := hl
  have hle := ht_cnt_le (ht_L F ND nd (nI 0) (nI 7)) cn
  refine lv_iload_n hx hb dX2_settle_0 rfl (lv_at hl 1 rfl) ?_
  refine lv_bipush (v := nI 7) hx hb dX2_settle_1 (by decide) ?_
  refine lv_imul hx hb dX2_settle_3 ?_
  refine ht_ti (pk_mul t 7) ?_
  refine lv_iload_n hx hb dX2_settle_4 rfl (lv_at hl 2 rfl) ?_
  refine lv_iadd hx hb dX2_settle_5 ?_
  refine ht_ti (nI_add (t * 7) nd) ?_
  refine lv_istore_n (lv' := [(3, .int (nI (t * 7 + nd))), (0, .ref (ad 0)), (1, .int (nI t)), (2, .int (nI nd))]) hx hb dX2_settle_6 rfl hl (by decide) rfl (fun ls hl => ?_)
  refine lv_aload_n hx hb dX2_settle_7 rfl (lv_at hl 1 rfl) ?_
  refine lv_iload_n hx hb dX2_settle_8 rfl (lv_at hl 3 rfl) ?_
  refine lv_iconst (v := nI 0) hx hb dX2_settle_9 (by decide) ?_
  refine lv_bipush (v := nI 7) hx hb dX2_settle_10 (by decide) ?_
  refine ht_callVi (As := [.int (nI nd), .int (nI 0), .int (nI 7)]) (rest := []) (wr := []) (q0 := 0) (ci := 1) hx hb hml hown hts hK hA I (mt_rowsOf l D dA ad ln cn tn F T SF SB LV NR RE ND nd (nI 0) (nI 7) hcn hnd) (cwV 3 hts (lw_V q283 q285 qs20 q27 q286) rfl rfl rfl (by decide +kernel) (by decide)) rfl rfl [0, 1, 2, 3, 4, 5, 6, 7, 8] [] rfl rfl (by decide) (by decide) (by decide) rfl hl.1 rfl (Nat.le_of_ble_eq_true rfl) dX2_settle_12 (by decide) (fun r u H locs hp I => ?_)
  subst hp
  have I : ht_I D A s.heap (ht_M ad dA (nI ln) (nI cn) (nI tn) F T SF SB LV NR RE ND) H locs := I
  refine lv_istore (lv' := [(4, .int (nI (ht_cnt (ht_L F ND nd (nI 0) (nI 7)) cn))), (3, .int (nI (t * 7 + nd))), (0, .ref (ad 0)), (1, .int (nI t)), (2, .int (nI nd))]) hx hb dX2_settle_15 hl (by decide) rfl (fun ls hl => ?_)
  refine lv_aload_n hx hb dX2_settle_17 rfl (lv_at hl 2 rfl) ?_
  refine lv_iload_n hx hb dX2_settle_18 rfl (lv_at hl 4 rfl) ?_
  refine lv_iconst (v := nI 0) hx hb dX2_settle_19 (by decide) ?_
  refine lv_bipush (v := nI 7) hx hb dX2_settle_20 (by decide) ?_
  refine ht_callVl (As := [.int (nI nd), .int (nI 0), .int (nI 7)]) (rest := []) (wr := []) (q0 := 0) (ci := 1) hx hb hml hown hts hK hA I (mt_sumOf l D dA ad ln cn tn F T SF SB LV NR RE ND nd (nI 0) (nI 7) hcn hnd) (cwV 3 hts (lw_V q287 q289 qs21 q27 q290) rfl rfl rfl (by decide +kernel) (by decide)) rfl rfl [0, 1, 2, 3, 4, 5, 6, 7, 8] [] rfl rfl (by decide) (by decide) (by decide) rfl hl.1 rfl (Nat.le_of_ble_eq_true rfl) dX2_settle_22 (by decide) (fun r u H locs hp I => ?_)
  subst hp
  have I : ht_I D A s.heap (ht_M ad dA (nI ln) (nI cn) (nI tn) F T SF SB LV NR RE ND) H locs := I
  refine lv_l2i (v := (Int64.ofInt (ht_sum (ht_L F ND nd (nI 0) (nI 7)) RE cn)).toInt32) hx hb dX2_settle_25 rfl ?_
  refine lv_istore (lv' := [(5, .int ((Int64.ofInt (ht_sum (ht_L F ND nd (nI 0) (nI 7)) RE cn)).toInt32)), (4, .int (nI (ht_cnt (ht_L F ND nd (nI 0) (nI 7)) cn))), (3, .int (nI (t * 7 + nd))), (0, .ref (ad 0)), (1, .int (nI t)), (2, .int (nI nd))]) hx hb dX2_settle_26 hl (by decide) rfl (fun ls hl => ?_)
  refine lv_aload_n hx hb dX2_settle_28 rfl (lv_at hl 3 rfl) ?_
  refine ht_getM hx hb hts hown hK I 8 (by decide) q221 rfl rfl dX2_settle_29 ?_
  refine lv_iload_n hx hb dX2_settle_32 rfl (lv_at hl 2 rfl) ?_
  refine lv_iload hx hb dX2_settle_33 (lv_at hl 1 rfl) ?_
  refine ht_ast (w3 := ht_M ad dA (nI ln) (nI cn) (nI tn) F T SF SB LV (upd NR (t * 7 + nd) (nI (ht_cnt (ht_L F ND nd (nI 0) (nI 7)) cn))) RE ND) hx hb hK I 6 rfl (by omega) rfl dX2_settle_35 (fun H locs I => ?_)
  refine lv_iload_n hx hb dX2_settle_36 rfl (lv_at hl 5 rfl) ?_
  refine lv_iconst (v := nI 3) hx hb dX2_settle_37 (by decide) ?_
  refine ht_ge (tgt := 52) hx hb dX2_settle_38 (by decide) (by omega) (by omega) (fun c_1 => ?_) (fun c_1 => ?_)
  · refine lv_aload_n hx hb dX2_settle_52 rfl (lv_at hl 3 rfl) ?_
    refine ht_getM hx hb hts hown hK I 5 (by decide) q218 rfl rfl dX2_settle_53 ?_
    refine lv_iload_n hx hb dX2_settle_56 rfl (lv_at hl 2 rfl) ?_
    refine ht_ald hx hb hK I 3 rfl (by omega) dX2_settle_57 ?_
    refine lv_bipush (v := (-6)) hx hb dX2_settle_58 (by decide) ?_
    refine lv_icmp_ne (tgt := 79) hx hb dX2_settle_60 (by decide) (fun c_2 => ?_) (fun c_2 => ?_)
    · exact ht_vret hx hb hr hlk hK I (w2 := fun (u : ht_f3 × ht_f3 × ht_f3 × ht_f3) => ht_M ad dA (nI ln) (nI cn) (nI tn) F T u.1 u.2.1 u.2.2.1 (upd NR (t * 7 + nd) (nI (ht_cnt (ht_L F ND nd (nI 0) (nI 7)) cn))) RE u.2.2.2) (SF, SB, LV, ND) ⟨by unfold ht_stl0; rw [if_neg (by omega)], by unfold ht_stl1; (try dsimp only); rw [if_neg c_2]⟩ rfl dX2_settle_79
    · refine lv_iload hx hb dX2_settle_63 (lv_at hl 1 rfl) ?_
      refine lv_if_le (tgt := 79) hx hb dX2_settle_65 (by decide) (fun c_3 => ?_) (fun c_3 => ?_)
      · have h0_ := (ht_le0 (by omega)).mp c_3
        exact ht_vret hx hb hr hlk hK I (w2 := fun (u : ht_f3 × ht_f3 × ht_f3 × ht_f3) => ht_M ad dA (nI ln) (nI cn) (nI tn) F T u.1 u.2.1 u.2.2.1 (upd NR (t * 7 + nd) (nI (ht_cnt (ht_L F ND nd (nI 0) (nI 7)) cn))) RE u.2.2.2) (SF, SB, LV, ND) ⟨by unfold ht_stl0; rw [if_neg (by omega)], by unfold ht_stl1; (try dsimp only); rw [if_pos c_2, if_pos h0_]⟩ rfl dX2_settle_79
      · have h0_ : ¬ ht_cnt (ht_L F ND nd (nI 0) (nI 7)) cn = 0 := fun q => c_3 ((ht_le0 (by omega)).mpr q)
        refine lv_aload_n hx hb dX2_settle_68 rfl (lv_at hl 3 rfl) ?_
        refine ht_getM hx hb hts hown hK I 7 (by decide) q220 rfl rfl dX2_settle_69 ?_
        refine lv_iload_n hx hb dX2_settle_72 rfl (lv_at hl 2 rfl) ?_
        refine lv_iload hx hb dX2_settle_73 (lv_at hl 0 rfl) ?_
        refine lv_iload hx hb dX2_settle_75 (lv_at hl 1 rfl) ?_
        refine lv_idiv hx hb dX2_settle_77 (nI_ne0 (by omega) (by omega)) ?_
        refine ht_ast (w3 := ht_M ad dA (nI ln) (nI cn) (nI tn) F T SF SB (upd LV (t * 7 + nd) (((Int64.ofInt (ht_sum (ht_L F ND nd (nI 0) (nI 7)) RE cn)).toInt32) / (nI (ht_cnt (ht_L F ND nd (nI 0) (nI 7)) cn)))) (upd NR (t * 7 + nd) (nI (ht_cnt (ht_L F ND nd (nI 0) (nI 7)) cn))) RE ND) hx hb hK I 5 rfl (by omega) rfl dX2_settle_78 (fun H locs I => ?_)
        exact ht_vret hx hb hr hlk hK I (w2 := fun (u : ht_f3 × ht_f3 × ht_f3 × ht_f3) => ht_M ad dA (nI ln) (nI cn) (nI tn) F T u.1 u.2.1 u.2.2.1 (upd NR (t * 7 + nd) (nI (ht_cnt (ht_L F ND nd (nI 0) (nI 7)) cn))) RE u.2.2.2) (SF, SB, upd LV (t * 7 + nd) (((Int64.ofInt (ht_sum (ht_L F ND nd (nI 0) (nI 7)) RE cn)).toInt32) / (nI (ht_cnt (ht_L F ND nd (nI 0) (nI 7)) cn))), ND) ⟨by unfold ht_stl0; rw [if_neg (by omega)], by unfold ht_stl1; (try dsimp only); rw [if_pos c_2, if_neg h0_]⟩ rfl dX2_settle_79
  · refine lv_iload hx hb dX2_settle_41 (lv_at hl 1 rfl) ?_
    refine lv_if_le (tgt := 52) hx hb dX2_settle_43 (by decide) (fun c_4 => ?_) (fun c_4 => ?_)
    · have h1_ := (ht_le0 (by omega)).mp c_4
      refine lv_aload_n hx hb dX2_settle_52 rfl (lv_at hl 3 rfl) ?_
      refine ht_getM hx hb hts hown hK I 5 (by decide) q218 rfl rfl dX2_settle_53 ?_
      refine lv_iload_n hx hb dX2_settle_56 rfl (lv_at hl 2 rfl) ?_
      refine ht_ald hx hb hK I 3 rfl (by omega) dX2_settle_57 ?_
      refine lv_bipush (v := (-6)) hx hb dX2_settle_58 (by decide) ?_
      refine lv_icmp_ne (tgt := 79) hx hb dX2_settle_60 (by decide) (fun c_5 => ?_) (fun c_5 => ?_)
      · exact ht_vret hx hb hr hlk hK I (w2 := fun (u : ht_f3 × ht_f3 × ht_f3 × ht_f3) => ht_M ad dA (nI ln) (nI cn) (nI tn) F T u.1 u.2.1 u.2.2.1 (upd NR (t * 7 + nd) (nI (ht_cnt (ht_L F ND nd (nI 0) (nI 7)) cn))) RE u.2.2.2) (SF, SB, LV, ND) ⟨by unfold ht_stl0; rw [if_pos (by omega), if_pos h1_], by unfold ht_stl1; (try dsimp only); rw [if_neg c_5]⟩ rfl dX2_settle_79
      · refine lv_iload hx hb dX2_settle_63 (lv_at hl 1 rfl) ?_
        refine lv_if_le (tgt := 79) hx hb dX2_settle_65 (by decide) (fun c_6 => ?_) (fun c_6 => ?_)
        · have h0_ := (ht_le0 (by omega)).mp c_6
          exact ht_vret hx hb hr hlk hK I (w2 := fun (u : ht_f3 × ht_f3 × ht_f3 × ht_f3) => ht_M ad dA (nI ln) (nI cn) (nI tn) F T u.1 u.2.1 u.2.2.1 (upd NR (t * 7 + nd) (nI (ht_cnt (ht_L F ND nd (nI 0) (nI 7)) cn))) RE u.2.2.2) (SF, SB, LV, ND) ⟨by unfold ht_stl0; rw [if_pos (by omega), if_pos h1_], by unfold ht_stl1; (try dsimp only); rw [if_pos c_5, if_pos h0_]⟩ rfl dX2_settle_79
        · have h0_ : ¬ ht_cnt (ht_L F ND nd (nI 0) (nI 7)) cn = 0 := fun q => c_6 ((ht_le0 (by omega)).mpr q)
          refine lv_aload_n hx hb dX2_settle_68 rfl (lv_at hl 3 rfl) ?_
          refine ht_getM hx hb hts hown hK I 7 (by decide) q220 rfl rfl dX2_settle_69 ?_
          refine lv_iload_n hx hb dX2_settle_72 rfl (lv_at hl 2 rfl) ?_
          refine lv_iload hx hb dX2_settle_73 (lv_at hl 0 rfl) ?_
          refine lv_iload hx hb dX2_settle_75 (lv_at hl 1 rfl) ?_
          refine lv_idiv hx hb dX2_settle_77 (nI_ne0 (by omega) (by omega)) ?_
          refine ht_ast (w3 := ht_M ad dA (nI ln) (nI cn) (nI tn) F T SF SB (upd LV (t * 7 + nd) (((Int64.ofInt (ht_sum (ht_L F ND nd (nI 0) (nI 7)) RE cn)).toInt32) / (nI (ht_cnt (ht_L F ND nd (nI 0) (nI 7)) cn)))) (upd NR (t * 7 + nd) (nI (ht_cnt (ht_L F ND nd (nI 0) (nI 7)) cn))) RE ND) hx hb hK I 5 rfl (by omega) rfl dX2_settle_78 (fun H locs I => ?_)
          exact ht_vret hx hb hr hlk hK I (w2 := fun (u : ht_f3 × ht_f3 × ht_f3 × ht_f3) => ht_M ad dA (nI ln) (nI cn) (nI tn) F T u.1 u.2.1 u.2.2.1 (upd NR (t * 7 + nd) (nI (ht_cnt (ht_L F ND nd (nI 0) (nI 7)) cn))) RE u.2.2.2) (SF, SB, upd LV (t * 7 + nd) (((Int64.ofInt (ht_sum (ht_L F ND nd (nI 0) (nI 7)) RE cn)).toInt32) / (nI (ht_cnt (ht_L F ND nd (nI 0) (nI 7)) cn))), ND) ⟨by unfold ht_stl0; rw [if_pos (by omega), if_pos h1_], by unfold ht_stl1; (try dsimp only); rw [if_pos c_5, if_neg h0_]⟩ rfl dX2_settle_79
    · have h1_ : ¬ ht_cnt (ht_L F ND nd (nI 0) (nI 7)) cn = 0 := fun q => c_4 ((ht_le0 (by omega)).mpr q)
      refine lv_aload_n hx hb dX2_settle_46 rfl (lv_at hl 3 rfl) ?_
      refine lv_iload_n hx hb dX2_settle_47 rfl (lv_at hl 4 rfl) ?_
      refine lv_iload_n hx hb dX2_settle_48 rfl (lv_at hl 5 rfl) ?_
      refine ht_callVv (As := [.int (nI t), .int (nI nd)]) (rest := []) (wr := []) (q0 := 0) (ci := 1) hx hb hml hown hts hK hA I (mt_split l D dA ad ln cn tn F T SF SB LV (upd NR (t * 7 + nd) (nI (ht_cnt (ht_L F ND nd (nI 0) (nI 7)) cn))) RE ND t nd ht (by omega) hcn) (cwV 2 hts (lw_V q291 q293 qs22 q27 q294) rfl rfl rfl (by decide +kernel) (by decide)) rfl rfl [0, 1, 2, 3, 4, 5, 6, 7, 8] [] rfl rfl (by decide) (by decide) (by decide) rfl hl.1 rfl (Nat.le_of_ble_eq_true rfl) dX2_settle_49 (by decide) (fun u H locs hp I => ?_)
      subst hp
      have I : ht_I D A s.heap (ht_M ad dA (nI ln) (nI cn) (nI tn) F T ((ht_split (nI ln) F ND RE SF SB cn nd (t * 7 + nd)).1) ((ht_split (nI ln) F ND RE SF SB cn nd (t * 7 + nd)).2.1) LV (upd NR (t * 7 + nd) (nI (ht_cnt (ht_L F ND nd (nI 0) (nI 7)) cn))) RE ((ht_split (nI ln) F ND RE SF SB cn nd (t * 7 + nd)).2.2)) H locs := I
      refine lv_aload_n hx hb dX2_settle_52 rfl (lv_at hl 3 rfl) ?_
      refine ht_getM hx hb hts hown hK I 5 (by decide) q218 rfl rfl dX2_settle_53 ?_
      refine lv_iload_n hx hb dX2_settle_56 rfl (lv_at hl 2 rfl) ?_
      refine ht_ald hx hb hK I 3 rfl (by omega) dX2_settle_57 ?_
      refine lv_bipush (v := (-6)) hx hb dX2_settle_58 (by decide) ?_
      refine lv_icmp_ne (tgt := 79) hx hb dX2_settle_60 (by decide) (fun c_7 => ?_) (fun c_7 => ?_)
      · exact ht_vret hx hb hr hlk hK I (w2 := fun (u : ht_f3 × ht_f3 × ht_f3 × ht_f3) => ht_M ad dA (nI ln) (nI cn) (nI tn) F T u.1 u.2.1 u.2.2.1 (upd NR (t * 7 + nd) (nI (ht_cnt (ht_L F ND nd (nI 0) (nI 7)) cn))) RE u.2.2.2) ((ht_split (nI ln) F ND RE SF SB cn nd (t * 7 + nd)).1, (ht_split (nI ln) F ND RE SF SB cn nd (t * 7 + nd)).2.1, LV, (ht_split (nI ln) F ND RE SF SB cn nd (t * 7 + nd)).2.2) ⟨by unfold ht_stl0; rw [if_pos (by omega), if_neg h1_], by unfold ht_stl1; (try dsimp only); rw [if_neg c_7]⟩ rfl dX2_settle_79
      · refine lv_iload hx hb dX2_settle_63 (lv_at hl 1 rfl) ?_
        refine lv_if_le (tgt := 79) hx hb dX2_settle_65 (by decide) (fun c_8 => ?_) (fun c_8 => ?_)
        · have h0_ := (ht_le0 (by omega)).mp c_8
          exact ht_vret hx hb hr hlk hK I (w2 := fun (u : ht_f3 × ht_f3 × ht_f3 × ht_f3) => ht_M ad dA (nI ln) (nI cn) (nI tn) F T u.1 u.2.1 u.2.2.1 (upd NR (t * 7 + nd) (nI (ht_cnt (ht_L F ND nd (nI 0) (nI 7)) cn))) RE u.2.2.2) ((ht_split (nI ln) F ND RE SF SB cn nd (t * 7 + nd)).1, (ht_split (nI ln) F ND RE SF SB cn nd (t * 7 + nd)).2.1, LV, (ht_split (nI ln) F ND RE SF SB cn nd (t * 7 + nd)).2.2) ⟨by unfold ht_stl0; rw [if_pos (by omega), if_neg h1_], by unfold ht_stl1; (try dsimp only); rw [if_pos c_7, if_pos h0_]⟩ rfl dX2_settle_79
        · have h0_ : ¬ ht_cnt (ht_L F ND nd (nI 0) (nI 7)) cn = 0 := fun q => c_8 ((ht_le0 (by omega)).mpr q)
          refine lv_aload_n hx hb dX2_settle_68 rfl (lv_at hl 3 rfl) ?_
          refine ht_getM hx hb hts hown hK I 7 (by decide) q220 rfl rfl dX2_settle_69 ?_
          refine lv_iload_n hx hb dX2_settle_72 rfl (lv_at hl 2 rfl) ?_
          refine lv_iload hx hb dX2_settle_73 (lv_at hl 0 rfl) ?_
          refine lv_iload hx hb dX2_settle_75 (lv_at hl 1 rfl) ?_
          refine lv_idiv hx hb dX2_settle_77 (nI_ne0 (by omega) (by omega)) ?_
          refine ht_ast (w3 := ht_M ad dA (nI ln) (nI cn) (nI tn) F T ((ht_split (nI ln) F ND RE SF SB cn nd (t * 7 + nd)).1) ((ht_split (nI ln) F ND RE SF SB cn nd (t * 7 + nd)).2.1) (upd LV (t * 7 + nd) (((Int64.ofInt (ht_sum (ht_L F ND nd (nI 0) (nI 7)) RE cn)).toInt32) / (nI (ht_cnt (ht_L F ND nd (nI 0) (nI 7)) cn)))) (upd NR (t * 7 + nd) (nI (ht_cnt (ht_L F ND nd (nI 0) (nI 7)) cn))) RE ((ht_split (nI ln) F ND RE SF SB cn nd (t * 7 + nd)).2.2)) hx hb hK I 5 rfl (by omega) rfl dX2_settle_78 (fun H locs I => ?_)
          exact ht_vret hx hb hr hlk hK I (w2 := fun (u : ht_f3 × ht_f3 × ht_f3 × ht_f3) => ht_M ad dA (nI ln) (nI cn) (nI tn) F T u.1 u.2.1 u.2.2.1 (upd NR (t * 7 + nd) (nI (ht_cnt (ht_L F ND nd (nI 0) (nI 7)) cn))) RE u.2.2.2) ((ht_split (nI ln) F ND RE SF SB cn nd (t * 7 + nd)).1, (ht_split (nI ln) F ND RE SF SB cn nd (t * 7 + nd)).2.1, upd LV (t * 7 + nd) (((Int64.ofInt (ht_sum (ht_L F ND nd (nI 0) (nI 7)) RE cn)).toInt32) / (nI (ht_cnt (ht_L F ND nd (nI 0) (nI 7)) cn))), (ht_split (nI ln) F ND RE SF SB cn nd (t * 7 + nd)).2.2) ⟨by unfold ht_stl0; rw [if_pos (by omega), if_neg h1_], by unfold ht_stl1; (try dsimp only); rw [if_pos c_7, if_neg h0_]⟩ rfl dX2_settle_79
end
section
/-! PURE 4: the two searches find the same split (over the integers) -/
theorem ht_q_le {t b T B q n : Int} (hB : 0 < B) (hb : 0 ≤ b) (hn : 0 ≤ n) (h1 : t * B ≤ T * b) (h2 : T * n ≤ q * B) : t * n ≤ q * b := by
  refine Int.le_of_mul_le_mul_right (a := B) ?_ hB
  have e1 : t * n * B = t * B * n := by ac_rfl
  have e2 : q * b * B = q * B * b := by ac_rfl
  have e3 : T * b * n = T * n * b := by ac_rfl
  rw [e1, e2]
  have a1 := Int.mul_le_mul_of_nonneg_right h1 hn
  have a2 := Int.mul_le_mul_of_nonneg_right h2 hb
  rw [e3] at a1
  exact Int.le_trans a1 a2
theorem ht_q_lt {t b T B q n : Int} (hB : 0 < B) (hb : 0 < b) (hn : 0 < n) (h1 : T * b < t * B) (h2 : q * B < T * n) : q * b < t * n := by
  refine Int.lt_of_mul_lt_mul_right (a := B) ?_ (Int.le_of_lt hB)
  have e1 : t * n * B = t * B * n := by ac_rfl
  have e2 : q * b * B = q * B * b := by ac_rfl
  have e3 : T * b * n = T * n * b := by ac_rfl
  rw [e1, e2]
  have a1 := Int.mul_lt_mul_of_pos_right h1 hn
  have a2 := Int.mul_lt_mul_of_pos_right h2 hb
  rw [e3] at a1
  exact Int.lt_trans a2 a1
section
variable (ln n : Nat) (sm : Int) (nl : Nat → Nat) (sl : Nat → Int)
def ht_top (c : Nat) : Int := sl c * sl c * ((n : Int) - nl c) + (sm - sl c) * (sm - sl c) * nl c
def ht_bot (c : Nat) : Int := (nl c : Int) * ((n : Int) - nl c)
/-- the best of the first c splits -/
def ht_zc : Nat → Option (Nat × Int × Int)
  | 0 => none
  | c + 1 => if nl c < ln ∨ n < nl c + ln then ht_zc c else
      match ht_zc c with
      | none => some (c, ht_top n sm nl sl c, ht_bot n nl c)
      | some (k, T, B) => if T * ht_bot n nl c < ht_top n sm nl sl c * B then some (c, ht_top n sm nl sl c, ht_bot n nl c) else some (k, T, B)
def ht_zm : Nat → Option Nat × Int × Int
  | 0 => (none, sm * sm, n)
  | c + 1 => if nl c < ln ∨ n < nl c + ln then ht_zm c else
      if ht_top n sm nl sl c * (ht_zm c).2.2 ≤ (ht_zm c).2.1 * ht_bot n nl c then ht_zm c else (some c, ht_top n sm nl sl c, ht_bot n nl c)
/-- the split that is taken -/
def ht_zdec (z : Option (Nat × Int × Int)) : Option Nat := match z with
  | none => none
  | some (k, T, B) => if sm * sm * B < T * n then some k else none
theorem ht_bot_pos {c : Nat} (h : ¬ (nl c < ln ∨ n < nl c + ln)) (hln : 0 < ln) : 0 < ht_bot n nl c := by
  unfold ht_bot
  have h1 : (0 : Int) < nl c := by omega
  have h2 : (0 : Int) < (n : Int) - nl c := by omega
  exact Int.mul_pos h1 h2
theorem ht_z_same (hln : 0 < ln) (hn : 0 < n) : ∀ c, match ht_zc ln n sm nl sl c with
    | none => ht_zm ln n sm nl sl c = (none, sm * sm, (n : Int))
    | some (k, T, B) => k < c ∧ 0 < B ∧ (if sm * sm * B < T * n then ht_zm ln n sm nl sl c = (some k, T, B) else ht_zm ln n sm nl sl c = (none, sm * sm, (n : Int)))
  | 0 => rfl
  | c + 1 => by
    have ih := ht_z_same hln hn c
    have hnI : (0 : Int) < n := by omega
    unfold ht_zc ht_zm
    by_cases h : nl c < ln ∨ n < nl c + ln
    · rw [if_pos h, if_pos h]
      revert ih
      cases ht_zc ln n sm nl sl c with
      | none => exact fun ih => ih
      | some v => obtain ⟨k, T, B⟩ := v; exact fun ih => ⟨by have := ih.1; omega, ih.2⟩
    · rw [if_neg h, if_neg h]
      have hb := ht_bot_pos ln n nl h hln
      revert ih
      cases ht_zc ln n sm nl sl c with
      | none =>
        intro ih
        dsimp only at ih ⊢
        rw [ih]
        refine ⟨by omega, hb, ?_⟩
        dsimp only
        by_cases h2 : sm * sm * ht_bot n nl c < ht_top n sm nl sl c * n
        · rw [if_pos h2, if_neg (by omega)]
        · rw [if_neg h2, if_pos (by omega)]
      | some v =>
        obtain ⟨k, T, B⟩ := v
        intro ih
        dsimp only at ih ⊢
        obtain ⟨hk, hB, ih⟩ := ih
        by_cases h1 : T * ht_bot n nl c < ht_top n sm nl sl c * B
        · rw [if_pos h1]
          refine ⟨by omega, hb, ?_⟩
          by_cases h3 : sm * sm * B < T * n
          · rw [if_pos h3] at ih
            have h4 := ht_q_lt hB hb hnI h1 h3
            rw [if_pos h4, ih]
            dsimp only
            rw [if_neg (by omega)]
          · rw [if_neg h3] at ih
            rw [ih]
            dsimp only
            by_cases h2 : sm * sm * ht_bot n nl c < ht_top n sm nl sl c * n
            · rw [if_pos h2, if_neg (by omega)]
            · rw [if_neg h2, if_pos (by omega)]
        · rw [if_neg h1]
          refine ⟨by omega, hB, ?_⟩
          by_cases h3 : sm * sm * B < T * n
          · rw [if_pos h3] at ih
            rw [if_pos h3, ih]
            dsimp only
            rw [if_pos (by omega)]
          · rw [if_neg h3] at ih
            rw [if_neg h3, ih]
            dsimp only
            have h4 := ht_q_le hB (Int.le_of_lt hb) (Int.le_of_lt hnI) (Int.not_lt.mp h1) (Int.not_lt.mp h3)
            rw [if_pos (by omega)]
theorem ht_zm_dec (hln : 0 < ln) (hn : 0 < n) (c : Nat) : (ht_zm ln n sm nl sl c).1 = ht_zdec n sm (ht_zc ln n sm nl sl c) := by
  have h := ht_z_same ln n sm nl sl hln hn c
  revert h
  cases ht_zc ln n sm nl sl c with
  | none => intro h; dsimp only at h; rw [h]; rfl
  | some v =>
    obtain ⟨k, T, B⟩ := v
    intro h
    dsimp only at h
    show _ = if sm * sm * B < T * n then some k else none
    by_cases h3 : sm * sm * B < T * n
    · rw [if_pos h3] at h ⊢; rw [h.2.2]
    · rw [if_neg h3] at h ⊢; rw [h.2.2]
theorem ht_zc_none (hn : n < ln) : ∀ c, ht_zc ln n sm nl sl c = none
  | 0 => rfl
  | c + 1 => by
    unfold ht_zc
    rw [if_pos (by omega)]
    exact ht_zc_none hn c
theorem ht_zdec_lt {c k : Nat} (hln : 0 < ln) (hn : 0 < n) (h : ht_zdec n sm (ht_zc ln n sm nl sl c) = some k) : k < c := by
  have h2 := ht_z_same ln n sm nl sl hln hn c
  revert h h2
  cases ht_zc ln n sm nl sl c with
  | none => intro h; cases h
  | some v =>
    obtain ⟨q, T, B⟩ := v
    intro h h2
    unfold ht_zdec at h
    dsimp only at h h2
    by_cases h3 : sm * sm * B < T * n
    · rw [if_pos h3] at h
      have := Option.some.inj h
      omega
    · rw [if_neg h3] at h
      cases h
end
end
section
/-! PURE 5: the machine's searches are the integers' -/
theorem ht_li_lt {a b : Int} (ha : a.natAbs ≤ 2 ^ 62) (hb : b.natAbs ≤ 2 ^ 62) : Int64.ofInt a < Int64.ofInt b ↔ a < b := by
  rw [Int64.lt_iff_toInt_lt, Int64.toInt_ofInt_of_le (by omega) (by omega), Int64.toInt_ofInt_of_le (by omega) (by omega)]
theorem ht_li_le {a b : Int} (ha : a.natAbs ≤ 2 ^ 62) (hb : b.natAbs ≤ 2 ^ 62) : Int64.ofInt a ≤ Int64.ofInt b ↔ a ≤ b := by
  rw [Int64.le_iff_toInt_le, Int64.toInt_ofInt_of_le (by omega) (by omega), Int64.toInt_ofInt_of_le (by omega) (by omega)]
theorem ht_nl {n : Nat} (h : n < 2 ^ 31) : (nI n).toInt64 = Int64.ofInt (n : Int) := by
  rw [ht_i2l, nI_toInt h]
theorem ht_bmul {a b : Int} {x y : Nat} (h1 : a.natAbs ≤ x) (h2 : b.natAbs ≤ y) : (a * b).natAbs ≤ x * y := by
  rw [Int.natAbs_mul]
  exact Nat.mul_le_mul h1 h2
section
variable {ln n : Nat} {sm : Int} {nl : Nat → Nat} {sl : Nat → Int}
theorem ht_top_bd {c : Nat} (hn : n ≤ 24) (hnl : nl c ≤ n) (hsl : (sl c).natAbs ≤ 9600) (hsm : sm.natAbs ≤ 9600) : (ht_top n sm nl sl c).natAbs ≤ 12000000000 := by
  unfold ht_top
  have a1 := ht_bmul (ht_bmul hsl hsl) (show ((n : Int) - nl c).natAbs ≤ 24 by omega)
  have a2 := ht_bmul (ht_bmul (show (sm - sl c).natAbs ≤ 19200 by omega) (show (sm - sl c).natAbs ≤ 19200 by omega)) (show ((nl c : Int)).natAbs ≤ 24 by omega)
  have a3 := Int.natAbs_add_le (sl c * sl c * ((n : Int) - nl c)) ((sm - sl c) * (sm - sl c) * nl c)
  omega
theorem ht_bot_bd {c : Nat} (hn : n ≤ 24) (hnl : nl c ≤ n) : (ht_bot n nl c).natAbs ≤ 576 := by
  unfold ht_bot
  exact ht_bmul (show ((nl c : Int)).natAbs ≤ 24 by omega) (show ((n : Int) - nl c).natAbs ≤ 24 by omega)
theorem ht_top_m (c : Nat) : Int64.ofInt (sl c) * Int64.ofInt (sl c) * (Int64.ofInt (n : Int) - Int64.ofInt (nl c : Int)) + (Int64.ofInt sm - Int64.ofInt (sl c)) * (Int64.ofInt sm - Int64.ofInt (sl c)) * Int64.ofInt (nl c : Int) = Int64.ofInt (ht_top n sm nl sl c) := by
  unfold ht_top
  simp only [Int64.ofInt_add, Int64.ofInt_mul, Int64.ofInt_sub]
theorem ht_bot_m (c : Nat) : Int64.ofInt (nl c : Int) * (Int64.ofInt (n : Int) - Int64.ofInt (nl c : Int)) = Int64.ofInt (ht_bot n nl c) := by
  unfold ht_bot
  simp only [Int64.ofInt_mul, Int64.ofInt_sub]
theorem ht_try_z (hln : ln ≤ 12) (hn : n ≤ 24) {c : Nat} (hnl : nl c ≤ n) (B : ht_B) (f b : Int32) :
    ht_try (nI ln) B f b (Int64.ofInt (nl c : Int)) (Int64.ofInt (sl c)) (Int64.ofInt (n : Int)) (Int64.ofInt sm) =
      if nl c < ln ∨ n < nl c + ln then B else if B.1 < 0 then (f, b, Int64.ofInt (ht_top n sm nl sl c), Int64.ofInt (ht_bot n nl c)) else
        if B.2.2.1 * Int64.ofInt (ht_bot n nl c) < Int64.ofInt (ht_top n sm nl sl c) * B.2.2.2 then (f, b, Int64.ofInt (ht_top n sm nl sl c), Int64.ofInt (ht_bot n nl c)) else B := by
  unfold ht_try
  rw [ht_top_m, ht_bot_m, ← Int64.ofInt_sub, ht_nl (by omega)]
  by_cases h1 : nl c < ln
  · rw [if_pos ((ht_li_lt (by omega) (by omega)).mpr (by omega)), if_pos (Or.inl h1)]
  · rw [if_neg (fun q => h1 (by have := (ht_li_lt (by omega) (by omega)).mp q; omega))]
    by_cases h2 : n < nl c + ln
    · rw [if_neg (fun q => by have := (ht_li_le (by omega) (by omega)).mp q; omega), if_pos (Or.inr h2)]
    · rw [if_pos ((ht_li_le (by omega) (by omega)).mpr (by omega)), if_neg (show ¬ (nl c < ln ∨ n < nl c + ln) by omega)]
theorem ht_ms_z (hln : ln ≤ 12) (hn : n ≤ 24) {c : Nat} (hnl : nl c ≤ n) (M : ht_Ms) (a f b : Nat) :
    ht_ms (nI ln) a f b (Int64.ofInt (nl c : Int)) (Int64.ofInt (sl c)) (Int64.ofInt (n : Int)) (Int64.ofInt sm) M =
      if nl c < ln ∨ n < nl c + ln then M else if Int64.ofInt (ht_top n sm nl sl c) * M.2.1 ≤ M.1 * Int64.ofInt (ht_bot n nl c) then M else
        (Int64.ofInt (ht_top n sm nl sl c), Int64.ofInt (ht_bot n nl c), upd M.2.2.1 a (nI f), upd M.2.2.2 a (nI b)) := by
  unfold ht_ms
  rw [Int64.mul_assoc M.1, ht_top_m, ht_bot_m, ← Int64.ofInt_sub, ht_nl (by omega)]
  by_cases h1 : nl c < ln
  · rw [if_pos ((ht_li_lt (by omega) (by omega)).mpr (by omega)), if_pos (Or.inl h1)]
  · rw [if_neg (fun q => h1 (by have := (ht_li_lt (by omega) (by omega)).mp q; omega))]
    by_cases h2 : n < nl c + ln
    · rw [if_pos ((ht_li_lt (by omega) (by omega)).mpr (by omega)), if_pos (Or.inr h2)]
    · rw [if_neg (fun q => by have := (ht_li_lt (by omega) (by omega)).mp q; omega), if_neg (show ¬ (nl c < ln ∨ n < nl c + ln) by omega)]
theorem ht_fold_z {CR CS : Nat → Int32} {nd : Nat} {N S bb : Int32} {bt bo : Int64} (hln : ln ≤ 12) (hn : n ≤ 24) (hnl : ∀ c, c < 21 → nl c ≤ n) (hsl : ∀ c, c < 21 → (sl c).natAbs ≤ 9600) (hsm : sm.natAbs ≤ 9600)
    (hN : N.toInt64 = Int64.ofInt (n : Int)) (hS : S.toInt64 = Int64.ofInt sm) (hCR : ∀ c, c < 21 → (ht_fs CR (nd * 24 + c / 7 * 8) (c % 7 + 1)).toInt64 = Int64.ofInt (nl c : Int)) (hCS : ∀ c, c < 21 → (ht_fs CS (nd * 24 + c / 7 * 8) (c % 7 + 1)).toInt64 = Int64.ofInt (sl c)) :
    ∀ c, c ≤ 21 → match ht_zc ln n sm nl sl c with
      | none => (ht_fold (nI ln) CR CS nd N S ((-1), bb, bt, bo) c).1 < 0
      | some (k, T, B) => ht_fold (nI ln) CR CS nd N S ((-1), bb, bt, bo) c = (nI (k / 7), nI (k % 7), Int64.ofInt T, Int64.ofInt B) ∧ k < 21 ∧ T.natAbs ≤ 12000000000 ∧ B.natAbs ≤ 576
  | 0 => fun _ => by show ((-1 : Int32)) < 0; decide
  | c + 1 => fun hc => by
    have ih := ht_fold_z (bb := bb) (bt := bt) (bo := bo) hln hn hnl hsl hsm hN hS hCR hCS c (by omega)
    have tb := ht_top_bd (sl := sl) (sm := sm) hn (hnl c (by omega)) (hsl c (by omega)) hsm
    have bb2 := ht_bot_bd (n := n) hn (hnl c (by omega))
    unfold ht_zc ht_fold
    rw [hCR c (by omega), hCS c (by omega), hN, hS, ht_try_z hln hn (hnl c (by omega))]
    by_cases h : nl c < ln ∨ n < nl c + ln
    · rw [if_pos h, if_pos h]
      exact ih
    · rw [if_neg h, if_neg h]
      revert ih
      cases ht_zc ln n sm nl sl c with
      | none =>
        intro ih
        dsimp only at ih ⊢
        rw [if_pos ih]
        exact ⟨rfl, by omega, tb, bb2⟩
      | some v =>
        obtain ⟨k, T, B⟩ := v
        intro ih
        dsimp only at ih ⊢
        obtain ⟨e, hk, hT, hB⟩ := ih
        rw [e]
        dsimp only
        rw [if_neg (nI_pos (by omega)), ← Int64.ofInt_mul, ← Int64.ofInt_mul]
        have m1 := ht_bmul hT bb2
        have m2 := ht_bmul tb hB
        by_cases h1 : T * ht_bot n nl c < ht_top n sm nl sl c * B
        · rw [if_pos h1, if_pos ((ht_li_lt (by omega) (by omega)).mpr h1)]
          exact ⟨rfl, by omega, tb, bb2⟩
        · rw [if_neg h1, if_neg (fun q => h1 ((ht_li_lt (by omega) (by omega)).mp q))]
          exact ⟨rfl, hk, hT, hB⟩
theorem ht_mf_z {F ND RE SF SB : Nat → Int32} {a cn nd : Nat} {N S : Int64} (hln : ln ≤ 12) (hn : n ≤ 24) (hnl : ∀ c, c < 21 → nl c ≤ n) (hsl : ∀ c, c < 21 → (sl c).natAbs ≤ 9600) (hsm : sm.natAbs ≤ 9600)
    (hN : N = Int64.ofInt (n : Int)) (hS : S = Int64.ofInt sm) (hcn : cn ≤ 24) (hCR : ∀ c, c < 21 → ht_cnt (ht_L F ND nd (nI (c / 7)) (nI (c % 7))) cn = nl c) (hCS : ∀ c, c < 21 → ht_sum (ht_L F ND nd (nI (c / 7)) (nI (c % 7))) RE cn = sl c) :
    ∀ c, c ≤ 21 → ht_mf (nI ln) a F ND RE cn nd N S (S * S, N, SF, SB) c = (Int64.ofInt (ht_zm ln n sm nl sl c).2.1, Int64.ofInt (ht_zm ln n sm nl sl c).2.2,
        (match (ht_zm ln n sm nl sl c).1 with | none => SF | some k => upd SF a (nI (k / 7))), (match (ht_zm ln n sm nl sl c).1 with | none => SB | some k => upd SB a (nI (k % 7)))) ∧
      (ht_zm ln n sm nl sl c).2.1.natAbs ≤ 12000000000 ∧ (ht_zm ln n sm nl sl c).2.2.natAbs ≤ 576
  | 0 => fun _ => by
    refine ⟨?_, ?_, ?_⟩
    · show (S * S, N, SF, SB) = (Int64.ofInt (sm * sm), Int64.ofInt (n : Int), SF, SB)
      rw [hS, hN, ← Int64.ofInt_mul]
    · show (sm * sm).natAbs ≤ 12000000000
      have := ht_bmul hsm hsm
      omega
    · show ((n : Int)).natAbs ≤ 576
      omega
  | c + 1 => fun hc => by
    obtain ⟨e, hT, hB⟩ := ht_mf_z (a := a) (SF := SF) (SB := SB) hln hn hnl hsl hsm hN hS hcn hCR hCS c (by omega)
    have tb := ht_top_bd (sl := sl) (sm := sm) hn (hnl c (by omega)) (hsl c (by omega)) hsm
    have bb2 := ht_bot_bd (n := n) hn (hnl c (by omega))
    have hcc := hnl c (by omega)
    unfold ht_zm ht_mf
    rw [hCR c (by omega), hCS c (by omega), ht_nl (by omega), e, hN, hS, ht_ms_z hln hn hcc]
    by_cases h : nl c < ln ∨ n < nl c + ln
    · rw [if_pos h, if_pos h]
      exact ⟨rfl, hT, hB⟩
    · rw [if_neg h, if_neg h]
      dsimp only
      rw [← Int64.ofInt_mul, ← Int64.ofInt_mul]
      have m1 := ht_bmul hT bb2
      have m2 := ht_bmul tb hB
      by_cases h1 : ht_top n sm nl sl c * (ht_zm ln n sm nl sl c).2.2 ≤ (ht_zm ln n sm nl sl c).2.1 * ht_bot n nl c
      · rw [if_pos h1, if_pos ((ht_li_le (by omega) (by omega)).mpr h1)]
        exact ⟨rfl, hT, hB⟩
      · rw [if_neg h1, if_neg (fun q => h1 ((ht_li_le (by omega) (by omega)).mp q))]
        refine ⟨?_, tb, bb2⟩
        dsimp only
        cases (ht_zm ln n sm nl sl c).1 with
        | none => rfl
        | some k =>
          have u2 : ∀ (f : Nat → Int32) (x y : Int32), upd (upd f a x) a y = upd f a y := fun f x y => by
            funext j
            unfold upd
            by_cases q : j = a
            · rw [if_pos q, if_pos q]
            · rw [if_neg q, if_neg q, if_neg q]
          dsimp only
          rw [u2, u2]
end
end
section
/-! PURE 6: histograms -/
/-- the sum of d over the rows below n that P has -/
def ht_gs (P : Nat → Bool) (d : Nat → Int) : Nat → Int
  | 0 => 0
  | i + 1 => if P i = true then ht_gs P d i + d i else ht_gs P d i
theorem ht_gs_cnt (P : Nat → Bool) : ∀ n, (ht_cnt P n : Int) = ht_gs P (fun _ => 1) n
  | 0 => rfl
  | n + 1 => by
    unfold ht_cnt ht_gs
    rw [← ht_gs_cnt P n]
    split <;> omega
theorem ht_gs_sum (P : Nat → Bool) (RE : Nat → Int32) : ∀ n, ht_sum P RE n = ht_gs P (fun i => (RE i).toInt) n
  | 0 => rfl
  | n + 1 => by
    unfold ht_sum ht_gs
    rw [← ht_gs_sum P RE n]
theorem ht_gs_congr {P Q : Nat → Bool} {d : Nat → Int} : ∀ {n : Nat}, (∀ i, i < n → P i = Q i) → ht_gs P d n = ht_gs Q d n
  | 0, _ => rfl
  | n + 1, h => by
    unfold ht_gs
    rw [h n (by omega), ht_gs_congr (fun i hi => h i (by omega))]
theorem ht_gs_add {P Q R : Nat → Bool} {d : Nat → Int} : ∀ {n : Nat}, (∀ i, i < n → R i = (P i || Q i) ∧ (P i && Q i) = false) → ht_gs R d n = ht_gs P d n + ht_gs Q d n
  | 0, _ => rfl
  | n + 1, h => by
    have ih := ht_gs_add (P := P) (Q := Q) (R := R) (d := d) (fun i hi => h i (Nat.lt_succ_of_lt hi))
    obtain ⟨h1, h2⟩ := h n (by omega)
    unfold ht_gs
    rw [h1, ih]
    revert h2
    cases P n <;> cases Q n <;> simp <;> omega
theorem ht_gs_bd {P : Nat → Bool} {d : Nat → Int} {b : Nat} : ∀ {n : Nat}, (∀ i, i < n → (d i).natAbs ≤ b) → (ht_gs P d n).natAbs ≤ ht_cnt P n * b
  | 0, _ => by show (0 : Int).natAbs ≤ 0 * b; omega
  | n + 1, h => by
    have ih := ht_gs_bd (P := P) (d := d) (b := b) (fun i hi => h i (Nat.lt_succ_of_lt hi))
    have := h n (by omega)
    unfold ht_gs ht_cnt
    by_cases q : P n = true
    · rw [if_pos q, if_pos q, Nat.add_mul]
      omega
    · rw [if_neg q, if_neg q]
      exact ih
theorem ht_cnt_mono {P Q : Nat → Bool} : ∀ {n : Nat}, (∀ i, i < n → P i = true → Q i = true) → ht_cnt P n ≤ ht_cnt Q n
  | 0, _ => Nat.le_refl _
  | n + 1, h => by
    have ih := ht_cnt_mono (P := P) (Q := Q) (fun i hi => h i (Nat.lt_succ_of_lt hi))
    have := h n (by omega)
    unfold ht_cnt
    by_cases q : P n = true
    · rw [if_pos q, if_pos (this q)]
      omega
    · rw [if_neg q]
      split <;> omega
def ht_in (ND : Nat → Int32) (nd i : Nat) : Bool := decide (ND i = nI nd)
/-- rows of P whose value of feature f is v -/
def ht_ci (F : Nat → Int32) (P : Nat → Bool) (f v i : Nat) : Bool := P i && decide (ht_cn (F i) (nI f) = v)
/-- rows of P whose value of feature f is below b -/
def ht_cb (F : Nat → Int32) (P : Nat → Bool) (f b i : Nat) : Bool := P i && decide (ht_cn (F i) (nI f) < b)
/-- the cells of node nd hold the sums of d over the rows of P -/
def ht_H (A F : Nat → Int32) (d : Nat → Int) (cn : Nat) (P : Nat → Bool) (nd : Nat) : Prop := ∀ f v : Nat, f < 3 → v < 8 → A (nd * 24 + f * 8 + v) = Int32.ofInt (ht_gs (ht_ci F P f v) d cn)
theorem ht_H_congr {A F : Nat → Int32} {d : Nat → Int} {cn nd : Nat} {P Q : Nat → Bool} (h : ht_H A F d cn P nd) (e : ∀ i, i < cn → P i = Q i) : ht_H A F d cn Q nd := by
  intro f v hf hv
  rw [h f v hf hv]
  exact congrArg Int32.ofInt (ht_gs_congr (fun i hi => by unfold ht_ci; rw [e i hi]))
theorem ht_H_keep {A A2 F : Nat → Int32} {d : Nat → Int} {cn nd : Nat} {P : Nat → Bool} (h : ht_H A F d cn P nd) (e : ∀ j, nd * 24 ≤ j → j < nd * 24 + 24 → A2 j = A j) : ht_H A2 F d cn P nd := by
  intro f v hf hv
  rw [e _ (by omega) (by omega)]
  exact h f v hf hv
theorem ht_ad_at {A : Nat → Int32} {x d : Int32} {nd k v : Nat} (hv : v < 8) : ∀ m, ht_ad A x nd d m (nd * 24 + k * 8 + v) = if k < m ∧ ht_cn x (nI k) = v then A (nd * 24 + k * 8 + v) + d else A (nd * 24 + k * 8 + v)
  | 0 => by rw [if_neg (by omega)]; rfl
  | m + 1 => by
    have hc := (ht_clN x (nI m)).2
    have ih := ht_ad_at (A := A) (x := x) (d := d) (nd := nd) (k := k) hv m
    show upd (ht_ad A x nd d m) (nd * 24 + m * 8 + ht_cn x (nI m)) (ht_ad A x nd d m (nd * 24 + m * 8 + ht_cn x (nI m)) + d) (nd * 24 + k * 8 + v) = _
    by_cases e : nd * 24 + k * 8 + v = nd * 24 + m * 8 + ht_cn x (nI m)
    · have e1 : k = m := by omega
      subst e1
      have e2 : ht_cn x (nI k) = v := by omega
      rw [← e, pk_us, ih, if_neg (by omega), if_pos ⟨by omega, e2⟩]
    · rw [pk_un e, ih]
      by_cases q : k < m ∧ ht_cn x (nI k) = v
      · rw [if_pos q, if_pos ⟨by omega, q.2⟩]
      · rw [if_neg q, if_neg]
        rintro ⟨q1, q2⟩
        rcases Nat.lt_or_ge k m with q3 | q3
        · exact q ⟨q3, q2⟩
        · have e1 : k = m := by omega
          subst e1
          omega
theorem ht_ad_out {A : Nat → Int32} {x d : Int32} {nd j : Nat} (hj : j < nd * 24 ∨ nd * 24 + 24 ≤ j) : ∀ m, m ≤ 3 → ht_ad A x nd d m j = A j
  | 0, _ => rfl
  | m + 1, hm => by
    have hc := (ht_clN x (nI m)).2
    show upd (ht_ad A x nd d m) (nd * 24 + m * 8 + ht_cn x (nI m)) _ j = _
    rw [pk_un (by omega)]
    exact ht_ad_out hj m (by omega)
theorem ht_fr_out {A F ND dd : Nat → Int32} {nd j : Nat} (hj : j < nd * 24 ∨ nd * 24 + 24 ≤ j) : ∀ n, ht_fr A F ND dd nd n j = A j
  | 0 => ht_put_out hj
  | n + 1 => by
    unfold ht_fr
    split
    · rw [ht_ad_out hj 3 (by omega)]
      exact ht_fr_out hj n
    · exact ht_fr_out hj n
theorem ht_fr_H {A F ND dd : Nat → Int32} {d : Nat → Int} {nd : Nat} (hd : ∀ i, dd i = Int32.ofInt (d i)) : ∀ n, ht_H (ht_fr A F ND dd nd n) F d n (ht_in ND nd) nd
  | 0 => by
    intro f v hf hv
    show ht_put A (nd * 24) 24 (fun _ => nI 0) _ = _
    rw [ht_put_in (by omega) (by omega)]
    rfl
  | n + 1 => by
    intro f v hf hv
    have ih := ht_fr_H (A := A) (F := F) (ND := ND) (nd := nd) hd n f v hf hv
    unfold ht_fr ht_gs
    by_cases q : ND n = nI nd
    · rw [if_pos q, ht_ad_at hv, ih]
      by_cases e : ht_cn (F n) (nI f) = v
      · rw [if_pos ⟨hf, e⟩, if_pos (by unfold ht_ci ht_in; simp [q, e]), Int32.ofInt_add, hd]
      · rw [if_neg (fun z => e z.2), if_neg (by unfold ht_ci; simp [e])]
    · rw [if_neg q, ih, if_neg (by unfold ht_ci ht_in; simp [q])]
theorem ht_fp_out {A : Nat → Int32} {nd pa ot j : Nat} (hj : j < nd * 24 ∨ nd * 24 + 24 ≤ j) : ht_fp A nd pa ot j = A j := ht_put_out hj
theorem ht_fp_H {A F : Nat → Int32} {d : Nat → Int} {cn nd pa ot : Nat} {P Q R : Nat → Bool} (hP : ht_H A F d cn P pa) (hQ : ht_H A F d cn Q ot) (hR : ∀ i, i < cn → P i = (R i || Q i) ∧ (R i && Q i) = false) : ht_H (ht_fp A nd pa ot) F d cn R nd := by
  intro f v hf hv
  unfold ht_fp
  rw [ht_put_in (by omega) (by omega), show pa * 24 + (nd * 24 + f * 8 + v - nd * 24) = pa * 24 + f * 8 + v by omega, show ot * 24 + (nd * 24 + f * 8 + v - nd * 24) = ot * 24 + f * 8 + v by omega, hP f v hf hv, hQ f v hf hv, ← Int32.ofInt_sub]
  refine congrArg Int32.ofInt ?_
  have := ht_gs_add (P := ht_ci F R f v) (Q := ht_ci F Q f v) (R := ht_ci F P f v) (d := d) (n := cn) (fun i hi => by
    obtain ⟨h1, h2⟩ := hR i hi
    unfold ht_ci
    rw [h1]
    revert h2
    cases R i <;> cases Q i <;> simp)
  omega
/-- running sums over a feature's cells -/
theorem ht_fs_H {A F : Nat → Int32} {d : Nat → Int} {cn nd f : Nat} {P : Nat → Bool} (h : ht_H A F d cn P nd) (hf : f < 3) : ∀ b, b ≤ 8 → ht_fs A (nd * 24 + f * 8) b = Int32.ofInt (ht_gs (ht_cb F P f b) d cn)
  | 0, _ => by
    have : ht_gs (ht_cb F P f 0) d cn = 0 := by
      have e : ∀ n, ht_gs (fun _ => false) d n = 0 := fun n => by
        induction n with
        | zero => rfl
        | succ n ih => unfold ht_gs; simpa using ih
      rw [← e cn]
      exact ht_gs_congr (fun i _ => by unfold ht_cb; simp)
    rw [this]
    rfl
  | b + 1, hb => by
    show ht_fs A (nd * 24 + f * 8) b + A (nd * 24 + f * 8 + b) = _
    rw [ht_fs_H h hf b (by omega), h f b hf (by omega), ← Int32.ofInt_add]
    refine congrArg Int32.ofInt (Eq.symm (ht_gs_add (fun i _ => ?_)))
    unfold ht_cb ht_ci
    rcases Nat.lt_trichotomy (ht_cn (F i) (nI f)) b with q | q | q
    · simp [q, Nat.lt_succ_of_lt q, Nat.ne_of_lt q]
    · simp [q]
    · simp [Nat.not_lt_of_lt q, Nat.ne_of_gt q, show ¬ ht_cn (F i) (nI f) < b + 1 by omega]
theorem ht_cb_L (F ND : Nat → Int32) (nd f b : Nat) (hb : b < 2 ^ 31) : ht_cb F (ht_in ND nd) f (b + 1) = ht_L F ND nd (nI f) (nI b) := by
  funext i
  unfold ht_cb ht_in ht_L
  have h := ht_clN (F i) (nI f)
  rw [h.1]
  have e : (¬ nI b < nI (ht_cn (F i) (nI f))) ↔ ht_cn (F i) (nI f) < b + 1 := by
    rw [nI_ltI hb (by omega)]
    omega
  by_cases q : ND i = nI nd <;> simp [q, e]
theorem ht_cb_8 (F : Nat → Int32) (P : Nat → Bool) (f : Nat) : ht_cb F P f 8 = P := by
  funext i
  unfold ht_cb
  simp [(ht_clN (F i) (nI f)).2]
theorem ht_L7 (F ND : Nat → Int32) (nd : Nat) : ht_L F ND nd (nI 0) (nI 7) = ht_in ND nd := by
  rw [← ht_cb_L F ND nd 0 7 (by decide)]
  exact ht_cb_8 F _ 0
end
section
/-! PURE 7: a node, as the class and as the reference settle it -/
theorem ht_ofI (n : Nat) : Int32.ofInt (n : Int) = nI n := rfl
theorem ht_i32 {z : Int} (h : z.natAbs < 2 ^ 31) : (Int32.ofInt z).toInt64 = Int64.ofInt z := by
  rw [ht_i2l, Int32.toInt_ofInt_of_le (by omega) (by omega)]
theorem ht_upd_self {f : Nat → Int32} {a : Nat} {x : Int32} (h : f a = x) : upd f a x = f := by
  funext j
  unfold upd
  by_cases q : j = a
  · rw [if_pos q, q, h]
  · rw [if_neg q]
def ht_zn (cn : Nat) (ND : Nat → Int32) (nd : Nat) : Nat := ht_cnt (ht_in ND nd) cn
def ht_zs (cn : Nat) (RE ND : Nat → Int32) (nd : Nat) : Int := ht_sum (ht_in ND nd) RE cn
def ht_znl (cn : Nat) (F ND : Nat → Int32) (nd c : Nat) : Nat := ht_cnt (ht_L F ND nd (nI (c / 7)) (nI (c % 7))) cn
def ht_zsl (cn : Nat) (F RE ND : Nat → Int32) (nd c : Nat) : Int := ht_sum (ht_L F ND nd (nI (c / 7)) (nI (c % 7))) RE cn
/-- the split that a node gets -/
def ht_zd (ln cn : Nat) (F RE ND : Nat → Int32) (nd : Nat) : Option Nat :=
  if nd < 3 then ht_zdec (ht_zn cn ND nd) (ht_zs cn RE ND nd) (ht_zc ln (ht_zn cn ND nd) (ht_zs cn RE ND nd) (ht_znl cn F ND nd) (ht_zsl cn F RE ND nd) 21) else none
section
variable {ln cn : Nat} {F RE ND : Nat → Int32} {nd : Nat}
theorem ht_L_in {f b : Int32} {i : Nat} (h : ht_L F ND nd f b i = true) : ht_in ND nd i = true := decide_eq_true (of_decide_eq_true h).1
theorem ht_znl_le (c : Nat) : ht_znl cn F ND nd c ≤ ht_zn cn ND nd := ht_cnt_mono (fun i _ h => ht_L_in h)
theorem ht_zn_le : ht_zn cn ND nd ≤ cn := ht_cnt_le _ _
theorem ht_zs_bd {b : Nat} (h : ∀ i, i < cn → (RE i).toInt.natAbs ≤ b) : (ht_zs cn RE ND nd).natAbs ≤ ht_zn cn ND nd * b := by
  unfold ht_zs ht_zn
  rw [ht_gs_sum]
  exact ht_gs_bd h
theorem ht_zsl_bd {b : Nat} (h : ∀ i, i < cn → (RE i).toInt.natAbs ≤ b) (c : Nat) : (ht_zsl cn F RE ND nd c).natAbs ≤ ht_znl cn F ND nd c * b := by
  unfold ht_zsl ht_znl
  rw [ht_gs_sum]
  exact ht_gs_bd h
theorem ht_zd_lt {k : Nat} (hln : 0 < ln) (h : ht_zd ln cn F RE ND nd = some k) : k < 21 ∧ nd < 3 ∧ 0 < ht_zn cn ND nd := by
  unfold ht_zd at h
  by_cases q : nd < 3
  · rw [if_pos q] at h
    by_cases q2 : 0 < ht_zn cn ND nd
    · exact ⟨ht_zdec_lt _ _ _ _ _ hln q2 h, q, q2⟩
    · rw [ht_zc_none ln _ _ _ _ (by omega)] at h
      cases h
  · rw [if_neg q] at h
    cases h
theorem ht_class_node {CR CS SF SB LV : Nat → Int32} {a : Nat} {bf bb : Int32} {bt bo : Int64} (hln : 0 < ln) (hln2 : ln ≤ 12) (hcn : cn ≤ 24) (hRE : ∀ i, i < cn → (RE i).toInt.natAbs ≤ 400)
    (hR : ht_H CR F (fun _ => 1) cn (ht_in ND nd) nd) (hS : ht_H CS F (fun i => (RE i).toInt) cn (ht_in ND nd) nd) :
    ht_fs CR (nd * 24) 8 = nI (ht_zn cn ND nd) ∧ ht_fs CS (nd * 24) 8 = Int32.ofInt (ht_zs cn RE ND nd) ∧
    ht_sn SF SB LV a (nI (ht_zn cn ND nd)) (Int32.ofInt (ht_zs cn RE ND nd)) (ht_best (nI ln) CR CS nd (nI (ht_zn cn ND nd)) (Int32.ofInt (ht_zs cn RE ND nd)) (bf, bb, bt, bo)) =
      match ht_zd ln cn F RE ND nd with
      | none => (nI 0, upd SF a (-6), SB, upd LV a (ht_dv (Int32.ofInt (ht_zs cn RE ND nd)) (nI (ht_zn cn ND nd))))
      | some k => (nI 1, upd SF a (nI (k / 7)), upd SB a (nI (k % 7)), upd LV a (nI 0)) := by
  have hn := ht_zn_le (cn := cn) (ND := ND) (nd := nd)
  have hs := ht_zs_bd (ND := ND) (nd := nd) hRE
  refine ⟨?_, ?_, ?_⟩
  · have := ht_fs_H hR (f := 0) (by omega) 8 (by omega)
    rw [ht_cb_8, ← ht_gs_cnt, ht_ofI] at this
    exact this
  · have := ht_fs_H hS (f := 0) (by omega) 8 (by omega)
    rw [ht_cb_8, ← ht_gs_sum] at this
    exact this
  · unfold ht_zd ht_best
    by_cases q : nd < 3
    · rw [if_pos q, if_pos q]
      have key := ht_fold_z (ln := ln) (n := ht_zn cn ND nd) (sm := ht_zs cn RE ND nd) (nl := ht_znl cn F ND nd) (sl := ht_zsl cn F RE ND nd) (CR := CR) (CS := CS) (nd := nd) (N := nI (ht_zn cn ND nd)) (S := Int32.ofInt (ht_zs cn RE ND nd)) (bb := bb) (bt := bt) (bo := bo) hln2 (by omega) (fun c _ => ht_znl_le c)
        (fun c _ => by have h1 := ht_zsl_bd (F := F) (ND := ND) (nd := nd) hRE c; have h2 := ht_znl_le (cn := cn) (F := F) (ND := ND) (nd := nd) c; omega) (by omega) (ht_nl (by omega)) (ht_i32 (by omega))
        (fun c hc => by
          rw [ht_fs_H hR (by omega) _ (by omega), ht_cb_L F ND nd _ _ (by omega), ← ht_gs_cnt, ht_ofI]
          have h2 := ht_znl_le (cn := cn) (F := F) (ND := ND) (nd := nd) c
          exact ht_nl (by unfold ht_znl at h2; omega))
        (fun c hc => by
          rw [ht_fs_H hS (by omega) _ (by omega), ht_cb_L F ND nd _ _ (by omega), ← ht_gs_sum]
          have h1 := ht_zsl_bd (F := F) (ND := ND) (nd := nd) hRE c
          have h2 := ht_znl_le (cn := cn) (F := F) (ND := ND) (nd := nd) c
          exact ht_i32 (by unfold ht_zsl at h1; omega)) 21 (by omega)
      revert key
      dsimp only
      cases ht_zc ln (ht_zn cn ND nd) (ht_zs cn RE ND nd) (ht_znl cn F ND nd) (ht_zsl cn F RE ND nd) 21 with
      | none =>
        intro key
        dsimp only at key
        unfold ht_sn
        rw [if_pos key]
        rfl
      | some v =>
        obtain ⟨k, T, B⟩ := v
        intro key
        dsimp only at key
        obtain ⟨e, hk, hT, hB⟩ := key
        rw [e]
        unfold ht_sn ht_zdec
        dsimp only
        rw [if_neg (nI_pos (by omega)), ht_i32 (by omega), ht_nl (by omega), ← Int64.ofInt_mul, ← Int64.ofInt_mul, ← Int64.ofInt_mul]
        have m1 := ht_bmul (ht_bmul (show (ht_zs cn RE ND nd).natAbs ≤ 9600 by omega) (show (ht_zs cn RE ND nd).natAbs ≤ 9600 by omega)) hB
        have m2 := ht_bmul hT (show ((ht_zn cn ND nd : Nat) : Int).natAbs ≤ 24 by omega)
        by_cases h1 : ht_zs cn RE ND nd * ht_zs cn RE ND nd * B < T * (ht_zn cn ND nd : Int)
        · rw [if_pos h1, if_pos ((ht_li_lt (by omega) (by omega)).mpr h1)]
        · rw [if_neg h1, if_neg (fun z => h1 ((ht_li_lt (by omega) (by omega)).mp z))]
    · rw [if_neg q, if_neg q]
      unfold ht_sn
      rw [if_pos (show ((-1 : Int32), bb, bt, bo).1 < 0 from (by decide : (-1 : Int32) < 0))]
theorem ht_model_node {SF SB LV : Nat → Int32} {a : Nat} (hln : 0 < ln) (hln2 : ln ≤ 12) (hcn : cn ≤ 24) (hRE : ∀ i, i < cn → (RE i).toInt.natAbs ≤ 400) (hSF : SF a = (-6)) (hLV : LV a = nI 0) :
    ht_stl0 (nI ln) F ND RE SF SB cn nd a (ht_zn cn ND nd) = (match ht_zd ln cn F RE ND nd with
      | none => (SF, SB, ND)
      | some k => (upd (upd (upd SF a (nI (k / 7))) (a + nd + 1) (-6)) (a + nd + 2) (-6), upd SB a (nI (k % 7)), ht_send F ND (nI (k / 7)) (nI (k % 7)) nd cn)) ∧
    ht_stl1 LV a (ht_zn cn ND nd) (Int64.ofInt (ht_zs cn RE ND nd)).toInt32 (ht_stl0 (nI ln) F ND RE SF SB cn nd a (ht_zn cn ND nd)) = (match ht_zd ln cn F RE ND nd with
      | none => upd LV a (ht_dv (Int32.ofInt (ht_zs cn RE ND nd)) (nI (ht_zn cn ND nd)))
      | some _ => upd LV a (nI 0)) := by
  have hn := ht_zn_le (cn := cn) (ND := ND) (nd := nd)
  have hs := ht_zs_bd (ND := ND) (nd := nd) hRE
  have first : ht_stl0 (nI ln) F ND RE SF SB cn nd a (ht_zn cn ND nd) = (match ht_zd ln cn F RE ND nd with
      | none => (SF, SB, ND)
      | some k => (upd (upd (upd SF a (nI (k / 7))) (a + nd + 1) (-6)) (a + nd + 2) (-6), upd SB a (nI (k % 7)), ht_send F ND (nI (k / 7)) (nI (k % 7)) nd cn)) := by
    unfold ht_stl0
    by_cases q : nd < 3
    · rw [if_pos q]
      by_cases q2 : ht_zn cn ND nd = 0
      · rw [if_pos q2]
        unfold ht_zd
        rw [if_pos q, ht_zc_none ln _ _ _ _ (by omega)]
        rfl
      · rw [if_neg q2]
        have key := ht_mf_z (ln := ln) (n := ht_zn cn ND nd) (sm := ht_zs cn RE ND nd) (nl := ht_znl cn F ND nd) (sl := ht_zsl cn F RE ND nd) (F := F) (ND := ND) (RE := RE) (SF := SF) (SB := SB) (a := a) (cn := cn) (nd := nd) (N := (nI (ht_zn cn ND nd)).toInt64) (S := Int64.ofInt (ht_zs cn RE ND nd)) hln2 (by omega) (fun c _ => ht_znl_le c)
          (fun c _ => by have h1 := ht_zsl_bd (F := F) (ND := ND) (nd := nd) hRE c; have h2 := ht_znl_le (cn := cn) (F := F) (ND := ND) (nd := nd) c; omega) (by omega) (ht_nl (by omega)) rfl hcn (fun c _ => rfl) (fun c _ => rfl) 21 (by omega)
        have dec := ht_zm_dec ln (ht_zn cn ND nd) (ht_zs cn RE ND nd) (ht_znl cn F ND nd) (ht_zsl cn F RE ND nd) hln (by omega) 21
        have e0 : ht_zd ln cn F RE ND nd = (ht_zm ln (ht_zn cn ND nd) (ht_zs cn RE ND nd) (ht_znl cn F ND nd) (ht_zsl cn F RE ND nd) 21).1 := by
          unfold ht_zd
          rw [if_pos q, dec]
        have hzk : ∀ k, (ht_zm ln (ht_zn cn ND nd) (ht_zs cn RE ND nd) (ht_znl cn F ND nd) (ht_zsl cn F RE ND nd) 21).1 = some k → k < 21 := fun k h => (ht_zd_lt hln (e0.trans h)).1
        unfold ht_split ht_m0
        rw [ht_L7]
        have k1 := key.1
        unfold ht_zn ht_zs at k1
        unfold ht_zs ht_zn at e0
        unfold ht_zs ht_zn at hzk
        rw [k1, e0]
        clear k1 key dec e0
        revert hzk
        cases (ht_zm ln (ht_cnt (ht_in ND nd) cn) (ht_sum (ht_in ND nd) RE cn) (ht_znl cn F ND nd) (ht_zsl cn F RE ND nd) 21).1 with
        | none =>
          intro _
          unfold ht_spl
          dsimp only
          rw [if_pos (by rw [hSF]; decide)]
        | some k =>
          intro hzk
          have hk := hzk k rfl
          unfold ht_spl
          dsimp only
          rw [if_neg (by rw [pk_us]; exact nI_pos (by omega)), pk_us, pk_us]
    · rw [if_neg q]
      unfold ht_zd
      rw [if_neg q]
  refine ⟨first, ?_⟩
  rw [first, Int64.toInt32_ofInt]
  cases hz : ht_zd ln cn F RE ND nd with
  | none =>
    unfold ht_stl1
    dsimp only
    rw [if_pos hSF]
    by_cases q2 : ht_zn cn ND nd = 0
    · rw [if_pos q2]
      unfold ht_dv
      rw [if_pos ((ht_le0 (by omega)).mpr q2), ht_upd_self hLV]
    · rw [if_neg q2]
      unfold ht_dv
      rw [if_neg (fun z => q2 ((ht_le0 (by omega)).mp z))]
  | some k =>
    unfold ht_stl1
    dsimp only
    have hk := ht_zd_lt hln hz
    rw [if_neg, ht_upd_self hLV]
    intro z
    rw [pk_un (by omega), pk_un (by omega), pk_us] at z
    have := congrArg Int32.toInt z
    rw [nI_toInt (by omega)] at this
    have e6 : ((-6 : Int32)).toInt = -6 := by decide
    rw [e6] at this
    omega
end
end
section
/-! PURE 8: a tree's training -/
/-- node k is there: the root, or a part of a split node -/
abbrev ht_there (SF : Nat → Int32) (t k : Nat) : Prop := k = 0 ∨ ¬ SF (t * 7 + (k - 1) / 2) < 0
/-- split feature, bound, leaf value, rows, the rows' nodes, leaves -/
abbrev ht_TS : Type := ht_f3 × ht_f3 × ht_f3 × ht_f3 × ht_f3 × Nat
def ht_ns (ln cn : Nat) (F RE : Nat → Int32) (t k : Nat) (σ : ht_TS) : ht_TS := match ht_zd ln cn F RE σ.2.2.2.2.1 k with
  | none => (upd σ.1 (t * 7 + k) (-6), σ.2.1, upd σ.2.2.1 (t * 7 + k) (ht_dv (Int32.ofInt (ht_zs cn RE σ.2.2.2.2.1 k)) (nI (ht_zn cn σ.2.2.2.2.1 k))), upd σ.2.2.2.1 (t * 7 + k) (nI (ht_zn cn σ.2.2.2.2.1 k)), σ.2.2.2.2.1, σ.2.2.2.2.2 + 1)
  | some c => (upd σ.1 (t * 7 + k) (nI (c / 7)), upd σ.2.1 (t * 7 + k) (nI (c % 7)), upd σ.2.2.1 (t * 7 + k) (nI 0), upd σ.2.2.2.1 (t * 7 + k) (nI (ht_zn cn σ.2.2.2.2.1 k)), ht_send F σ.2.2.2.2.1 (nI (c / 7)) (nI (c % 7)) k cn, σ.2.2.2.2.2)
def ht_tr (ln cn : Nat) (F RE : Nat → Int32) (t : Nat) (σ : ht_TS) : Nat → ht_TS
  | 0 => σ
  | k + 1 => if ht_there (ht_tr ln cn F RE t σ k).1 t k then ht_ns ln cn F RE t k (ht_tr ln cn F RE t σ k) else ht_tr ln cn F RE t σ k
theorem ht_tr_1 {ln cn : Nat} {F RE : Nat → Int32} {t k : Nat} {σ : ht_TS} (h : ht_there (ht_tr ln cn F RE t σ k).1 t k) : ht_tr ln cn F RE t σ (k + 1) = ht_ns ln cn F RE t k (ht_tr ln cn F RE t σ k) := if_pos h
theorem ht_tr_0 {ln cn : Nat} {F RE : Nat → Int32} {t k : Nat} {σ : ht_TS} (h : ¬ ht_there (ht_tr ln cn F RE t σ k).1 t k) : ht_tr ln cn F RE t σ (k + 1) = ht_tr ln cn F RE t σ k := if_neg h
theorem ht_there_upd {SF : Nat → Int32} {t k q : Nat} {x : Int32} (h : q = 0 ∨ (q - 1) / 2 ≠ k) : ht_there (upd SF (t * 7 + k) x) t q ↔ ht_there SF t q := by
  unfold ht_there
  rcases h with h | h
  · simp [h]
  · rw [pk_un (by omega)]
theorem ht_there_kid {SF : Nat → Int32} {t k q : Nat} (h : q ≠ 0) (h2 : (q - 1) / 2 = k) : ht_there SF t q ↔ ¬ SF (t * 7 + k) < 0 := by
  unfold ht_there
  rw [h2]
  simp [h]
/-- what holds of the class's cells before node k is made -/
def ht_OK (CR CS F RE : Nat → Int32) (cn t k : Nat) (SF ND : Nat → Int32) : Prop :=
  (∀ j, k ≤ j → j < 7 → ht_there SF t j → ht_H CR F (fun _ => 1) cn (ht_in ND j) j ∧ ht_H CS F (fun i => (RE i).toInt) cn (ht_in ND j) j) ∧
  (∀ i, i < cn → ∃ q, q < 7 ∧ ND i = nI q ∧ ht_there SF t q) ∧ (∀ j, k ≤ j → j < 7 → SF (t * 7 + j) = (-7))
section
variable {CR CS F RE SF ND : Nat → Int32} {cn t k : Nat}
theorem ht_OK_skip (h : ht_OK CR CS F RE cn t k SF ND) : ht_OK CR CS F RE cn t (k + 1) SF ND :=
  ⟨fun j h1 h2 h3 => h.1 j (by omega) h2 h3, h.2.1, fun j h1 h2 => h.2.2 j (by omega) h2⟩
theorem ht_neg7 : (-7 : Int32) < 0 := by decide
theorem ht_neg6 : (-6 : Int32) < 0 := by decide
theorem ht_OK_leaf (hk : k < 7) (h : ht_OK CR CS F RE cn t k SF ND) : ht_OK CR CS F RE cn t (k + 1) (upd SF (t * 7 + k) (-6)) ND := by
  have hs := h.2.2 k (Nat.le_refl k) hk
  have key : ∀ q, ht_there (upd SF (t * 7 + k) (-6)) t q ↔ ht_there SF t q := by
    intro q
    by_cases h0 : q = 0 ∨ (q - 1) / 2 ≠ k
    · exact ht_there_upd h0
    · rw [ht_there_kid (k := k) (by omega) (by omega), ht_there_kid (k := k) (by omega) (by omega), pk_us, hs]
      exact ⟨fun z => absurd ht_neg6 z, fun z => absurd ht_neg7 z⟩
  refine ⟨fun j h1 h2 h3 => h.1 j (by omega) h2 ((key j).mp h3), fun i hi => ?_, fun j h1 h2 => ?_⟩
  · obtain ⟨q, a, b, c⟩ := h.2.1 i hi
    exact ⟨q, a, b, (key q).mpr c⟩
  · rw [pk_un (by omega)]
    exact h.2.2 j (by omega) h2
theorem ht_nI_ne {a b : Nat} (ha : a < 2 ^ 31) (hb : b < 2 ^ 31) (h : a ≠ b) : ¬ nI a = nI b := fun q => h ((nI_eq ha hb).mp q)
theorem ht_OK_split {fv bv : Nat} {sm lg : Nat} {ND2 : Nat → Int32} (hk : k < 3) (h : ht_OK CR CS F RE cn t k SF ND) (hth : ht_there SF t k) (hfv : fv < 3) (hsl : sm = 2 * k + 1 ∧ lg = 2 * k + 2 ∨ sm = 2 * k + 2 ∧ lg = 2 * k + 1)
    (hND : ND2 = ht_send F ND (nI fv) (nI bv) k cn) :
    ht_OK (ht_fp (ht_fr CR F ND2 (fun _ => nI 1) sm cn) lg k sm) (ht_fp (ht_fr CS F ND2 RE sm cn) lg k sm) F RE cn t (k + 1) (upd SF (t * 7 + k) (nI fv)) ND2 := by
  have hs := h.2.2 k (Nat.le_refl k) (by omega)
  -- a row's new node
  have nd1 : ∀ i, i < cn → ND i = nI k → ND2 i = nI (2 * k + 2) ∨ ND2 i = nI (2 * k + 1) := by
    intro i hi e
    rw [hND]
    unfold ht_send
    rw [if_pos ⟨hi, e⟩]
    split
    · exact Or.inl rfl
    · exact Or.inr rfl
  have nd0 : ∀ i, ¬ ND i = nI k → ND2 i = ND i := by
    intro i e
    rw [hND]
    exact if_neg (fun z => e z.2)
  -- no row was in the parts before
  have none : ∀ i, i < cn → ∀ q, q = 2 * k + 1 ∨ q = 2 * k + 2 → ¬ ND i = nI q := by
    intro i hi q hq e
    obtain ⟨r, a, b, c⟩ := h.2.1 i hi
    have : r = q := (nI_eq (by omega) (by omega)).mp (b.symm.trans e)
    subst this
    rw [ht_there_kid (k := k) (by omega) (by omega), hs] at c
    exact c ht_neg7
  have hin : ∀ i, i < cn → ht_in ND k i = (ht_in ND2 lg i || ht_in ND2 sm i) ∧ (ht_in ND2 lg i && ht_in ND2 sm i) = false := by
    intro i hi
    unfold ht_in
    by_cases e : ND i = nI k
    · rcases nd1 i hi e with z | z
      · rw [z, e]
        have n1 : ¬ nI (2 * k + 2) = nI (2 * k + 1) := ht_nI_ne (by omega) (by omega) (by omega)
        rcases hsl with ⟨e1, e2⟩ | ⟨e1, e2⟩ <;> rw [e1, e2] <;> simp [n1]
      · rw [z, e]
        have n1 : ¬ nI (2 * k + 1) = nI (2 * k + 2) := ht_nI_ne (by omega) (by omega) (by omega)
        rcases hsl with ⟨e1, e2⟩ | ⟨e1, e2⟩ <;> rw [e1, e2] <;> simp [n1]
    · have n1 := none i hi lg (by omega)
      have n2 := none i hi sm (by omega)
      rw [nd0 i e]
      simp [e, n1, n2]
  have hoth : ∀ j, j < 7 → j ≠ k → j ≠ 2 * k + 1 → j ≠ 2 * k + 2 → ∀ i, i < cn → ht_in ND j i = ht_in ND2 j i := by
    intro j hj a b c i hi
    unfold ht_in
    by_cases e : ND i = nI k
    · have n0 : ¬ nI k = nI j := ht_nI_ne (by omega) (by omega) (by omega)
      have n1 : ¬ nI (2 * k + 1) = nI j := ht_nI_ne (by omega) (by omega) (by omega)
      have n2 : ¬ nI (2 * k + 2) = nI j := ht_nI_ne (by omega) (by omega) (by omega)
      rcases nd1 i hi e with z | z <;> rw [z, e] <;> simp [n0, n1, n2]
    · rw [nd0 i e]
  -- the three kinds of node, for any array of cells
  have hist : ∀ (A dd : Nat → Int32) (d : Nat → Int), (∀ i, dd i = Int32.ofInt (d i)) → (∀ j, k ≤ j → j < 7 → ht_there SF t j → ht_H A F d cn (ht_in ND j) j) → ∀ j, k + 1 ≤ j → j < 7 → ht_there (upd SF (t * 7 + k) (nI fv)) t j → ht_H (ht_fp (ht_fr A F ND2 dd sm cn) lg k sm) F d cn (ht_in ND2 j) j := by
    intro A dd d hdd hA j h1 h2 h3
    by_cases c1 : j = sm
    · rw [c1]
      exact ht_H_keep (ht_fr_H hdd cn) (fun q a b => ht_fp_out (by omega))
    · by_cases c2 : j = lg
      · rw [c2]
        exact ht_fp_H (P := ht_in ND k) (Q := ht_in ND2 sm) (ht_H_keep (hA k (Nat.le_refl k) (by omega) hth) (fun q a b => ht_fr_out (by omega) cn)) (ht_fr_H hdd cn) hin
      · have h4 : ht_there SF t j := (ht_there_upd (by omega)).mp h3
        refine ht_H_congr (ht_H_keep (hA j (by omega) h2 h4) (fun q a b => ?_)) (hoth j h2 (by omega) (by omega) (by omega))
        rw [ht_fp_out (by omega), ht_fr_out (by omega)]
  refine ⟨fun j h1 h2 h3 => ⟨hist CR (fun _ => nI 1) (fun _ => 1) (fun _ => rfl) (fun j a b c => (h.1 j a b c).1) j h1 h2 h3, hist CS RE (fun i => (RE i).toInt) (fun i => (Int32.ofInt_toInt _).symm) (fun j a b c => (h.1 j a b c).2) j h1 h2 h3⟩, fun i hi => ?_, fun j h1 h2 => ?_⟩
  · by_cases e : ND i = nI k
    · rcases nd1 i hi e with z | z
      · exact ⟨2 * k + 2, by omega, z, (ht_there_kid (k := k) (by omega) (by omega)).mpr (by rw [pk_us]; exact nI_pos (by omega))⟩
      · exact ⟨2 * k + 1, by omega, z, (ht_there_kid (k := k) (by omega) (by omega)).mpr (by rw [pk_us]; exact nI_pos (by omega))⟩
    · obtain ⟨q, a, b, c⟩ := h.2.1 i hi
      refine ⟨q, a, (nd0 i e).trans b, ?_⟩
      by_cases h0 : q = 0 ∨ (q - 1) / 2 ≠ k
      · exact (ht_there_upd h0).mpr c
      · exact (ht_there_kid (k := k) (by omega) (by omega)).mpr (by rw [pk_us]; exact nI_pos (by omega))
  · rw [pk_un (by omega)]
    exact h.2.2 j (by omega) h2
theorem ht_OK_init {CR0 CS0 : Nat → Int32} (hSF : ∀ j, j < 7 → SF (t * 7 + j) = (-7)) (hND : ∀ i, i < cn → ND i = nI 0) : ht_OK (ht_fr CR0 F ND (fun _ => nI 1) 0 cn) (ht_fr CS0 F ND RE 0 cn) F RE cn t 0 SF ND := by
  refine ⟨fun j _ h2 h3 => ?_, fun i hi => ⟨0, by omega, hND i hi, Or.inl rfl⟩, fun j _ h2 => hSF j h2⟩
  rcases h3 with h3 | h3
  · rw [h3]
    exact ⟨ht_fr_H (dd := fun _ => nI 1) (d := fun _ => 1) (fun _ => rfl) cn, ht_fr_H (dd := RE) (d := fun i => (RE i).toInt) (fun i => (Int32.ofInt_toInt _).symm) cn⟩
  · exact absurd (by rw [hSF _ (by omega)]; exact ht_neg7) h3
end
/-- the reference's split features before node k is made: parts of split nodes are marked as leaves -/
def ht_mark (SF : Nat → Int32) (t k : Nat) : ht_f3 := fun j => if t * 7 + k ≤ j ∧ j < t * 7 + 7 ∧ ht_there SF t (j - t * 7) then (-6) else SF j
section
variable {SF : Nat → Int32} {t k : Nat}
theorem ht_mark_7 : ht_mark SF t 7 = SF := by
  funext j
  exact if_neg (by omega)
theorem ht_mark_at (hk : k < 7) : ht_mark SF t k (t * 7 + k) = if ht_there SF t k then (-6) else SF (t * 7 + k) := by
  unfold ht_mark
  rw [show t * 7 + k - t * 7 = k by omega]
  by_cases h : ht_there SF t k
  · rw [if_pos ⟨Nat.le_refl _, by omega, h⟩, if_pos h]
  · rw [if_neg (fun z => h z.2.2), if_neg h]
theorem ht_mark_skip (h : ¬ ht_there SF t k) : ht_mark SF t (k + 1) = ht_mark SF t k := by
  funext j
  unfold ht_mark
  by_cases e : j = t * 7 + k
  · rw [if_neg (by omega), if_neg]
    rintro ⟨-, -, z⟩
    rw [e, show t * 7 + k - t * 7 = k by omega] at z
    exact h z
  · by_cases z : t * 7 + k ≤ j ∧ j < t * 7 + 7 ∧ ht_there SF t (j - t * 7)
    · rw [if_pos z, if_pos ⟨by omega, z.2⟩]
    · rw [if_neg z, if_neg (fun y => z ⟨by omega, y.2⟩)]
theorem ht_mark_leaf (hk : k < 7) (hs : SF (t * 7 + k) = (-7)) (h : ht_there SF t k) : ht_mark (upd SF (t * 7 + k) (-6)) t (k + 1) = ht_mark SF t k := by
  have key : ∀ q, ht_there (upd SF (t * 7 + k) (-6)) t q ↔ ht_there SF t q := by
    intro q
    by_cases h0 : q = 0 ∨ (q - 1) / 2 ≠ k
    · exact ht_there_upd h0
    · rw [ht_there_kid (k := k) (by omega) (by omega), ht_there_kid (k := k) (by omega) (by omega), pk_us, hs]
      exact ⟨fun z => absurd ht_neg6 z, fun z => absurd ht_neg7 z⟩
  funext j
  by_cases e : j = t * 7 + k
  · rw [e, ht_mark_at hk, if_pos h]
    unfold ht_mark
    rw [if_neg (by omega), pk_us]
  · unfold ht_mark
    by_cases z : t * 7 + k ≤ j ∧ j < t * 7 + 7 ∧ ht_there SF t (j - t * 7)
    · rw [if_pos z, if_pos ⟨by omega, z.2.1, (key _).mpr z.2.2⟩]
    · rw [if_neg z, if_neg (fun y => z ⟨by omega, y.2.1, (key _).mp y.2.2⟩), pk_un e]
theorem ht_mark_split {fv : Nat} (hk : k < 3) (hfv : fv < 3) : ht_mark (upd SF (t * 7 + k) (nI fv)) t (k + 1) = upd (upd (upd (ht_mark SF t k) (t * 7 + k) (nI fv)) (t * 7 + k + k + 1) (-6)) (t * 7 + k + k + 2) (-6) := by
  have hkid : ∀ q, q ≠ 0 → (q - 1) / 2 = k → ht_there (upd SF (t * 7 + k) (nI fv)) t q := fun q a b => (ht_there_kid a b).mpr (by rw [pk_us]; exact nI_pos (by omega))
  funext j
  by_cases e2 : j = t * 7 + k + k + 2
  · rw [e2, pk_us]
    unfold ht_mark
    rw [if_pos ⟨by omega, by omega, hkid _ (by omega) (by omega)⟩]
  rw [pk_un e2]
  by_cases e1 : j = t * 7 + k + k + 1
  · rw [e1, pk_us]
    unfold ht_mark
    rw [if_pos ⟨by omega, by omega, hkid _ (by omega) (by omega)⟩]
  rw [pk_un e1]
  by_cases e0 : j = t * 7 + k
  · rw [e0, pk_us]
    unfold ht_mark
    rw [if_neg (by omega), pk_us]
  rw [pk_un e0]
  unfold ht_mark
  by_cases z : t * 7 + k ≤ j ∧ j < t * 7 + 7 ∧ ht_there SF t (j - t * 7)
  · rw [if_pos z, if_pos ⟨by omega, z.2.1, (ht_there_upd (by omega)).mpr z.2.2⟩]
  · rw [if_neg z, if_neg (fun y => z ⟨by omega, y.2.1, (ht_there_upd (by omega)).mp y.2.2⟩), pk_un e0]
theorem ht_mark_0 (hSF : ∀ j, j < 7 → SF (t * 7 + j) = (-7)) : ht_mark SF t 0 = upd SF (t * 7) (-6) := by
  funext j
  unfold ht_mark upd
  by_cases e : j = t * 7
  · rw [if_pos ⟨by omega, by omega, Or.inl (by omega)⟩, if_pos e]
  · rw [if_neg e, if_neg]
    rintro ⟨a, b, c | c⟩
    · omega
    · exact c (by rw [hSF _ (by omega)]; exact ht_neg7)
end
end
section
/-! PURE 9: training, whole -/
theorem ht_put0_s {f g : Nat → Int32} {n : Nat} {x : Int32} (h : x = g n) : upd (ht_put f 0 n g) n x = ht_put f 0 (n + 1) g := by
  have := ht_put_s (f := f) (lo := 0) (n := n) (g := g) (x := x) (by rw [Nat.zero_add]; exact h)
  rw [Nat.zero_add] at this
  exact this
/-- the rests at a training's start -/
def ht_re (cn tn : Nat) (F T SF SB LV RE : Nat → Int32) : ht_f3 := ht_put RE 0 cn (fun i => ht_rest SF SB LV F T tn i)
def ht_t0 (cn tn : Nat) (SF SB LV NR ND : Nat → Int32) : ht_TS := (ht_put SF (tn * 7) 7 (fun _ => (-7)), SB, ht_put LV (tn * 7) 7 (fun _ => nI 0), ht_put NR (tn * 7) 7 (fun _ => nI 0), ht_put ND 0 cn (fun _ => nI 0), 0)
abbrev ht_tr7 (ln cn tn : Nat) (F T SF SB LV NR RE ND : Nat → Int32) (k : Nat) : ht_TS := ht_tr ln cn F (ht_re cn tn F T SF SB LV RE) tn (ht_t0 cn tn SF SB LV NR ND) k
/-- trees, split feature, bound, leaf value, rows, rests, the rows' nodes -/
abbrev ht_U : Type := Nat × ht_f3 × ht_f3 × ht_f3 × ht_f3 × ht_f3 × ht_f3
def ht_train (ln cn tn : Nat) (F T SF SB LV NR RE ND : Nat → Int32) : Int32 × ht_U :=
  if tn < 4 then (nI (ht_tr7 ln cn tn F T SF SB LV NR RE ND 7).2.2.2.2.2, tn + 1, (ht_tr7 ln cn tn F T SF SB LV NR RE ND 7).1, (ht_tr7 ln cn tn F T SF SB LV NR RE ND 7).2.1, (ht_tr7 ln cn tn F T SF SB LV NR RE ND 7).2.2.1, (ht_tr7 ln cn tn F T SF SB LV NR RE ND 7).2.2.2.1, ht_re cn tn F T SF SB LV RE, (ht_tr7 ln cn tn F T SF SB LV NR RE ND 7).2.2.2.2.1)
  else ((-3), tn, SF, SB, LV, NR, RE, ND)
theorem ht_re_bd {cn tn : Nat} {F T SF SB LV RE : Nat → Int32} {b : Nat} (h : ∀ i, i < cn → (ht_rest SF SB LV F T tn i).toInt.natAbs ≤ b) : ∀ i, i < cn → (ht_re cn tn F T SF SB LV RE i).toInt.natAbs ≤ b := by
  intro i hi
  unfold ht_re
  rw [ht_put_in (by omega) (by omega)]
  exact h i hi
section
variable {ln cn : Nat} {F RE : Nat → Int32} {t : Nat} {σ : ht_TS}
/-- nodes that aren't made yet -/
theorem ht_tr_new (h : ∀ j, j < 7 → σ.1 (t * 7 + j) = (-7) ∧ σ.2.2.1 (t * 7 + j) = nI 0) : ∀ k, ∀ j, k ≤ j → j < 7 → (ht_tr ln cn F RE t σ k).1 (t * 7 + j) = (-7) ∧ (ht_tr ln cn F RE t σ k).2.2.1 (t * 7 + j) = nI 0
  | 0, j, _, h2 => h j h2
  | k + 1, j, h1, h2 => by
    have ih := ht_tr_new h k j (by omega) h2
    by_cases q : ht_there (ht_tr ln cn F RE t σ k).1 t k
    · rw [ht_tr_1 q]
      unfold ht_ns
      split <;> dsimp only <;> rw [pk_un (by omega), pk_un (by omega)] <;> exact ih
    · rw [ht_tr_0 q]
      exact ih
theorem ht_tr_leaves (k : Nat) (h : σ.2.2.2.2.2 = 0) : (ht_tr ln cn F RE t σ k).2.2.2.2.2 ≤ k := by
  induction k with
  | zero => exact Nat.le_of_eq h
  | succ k ih =>
    by_cases q : ht_there (ht_tr ln cn F RE t σ k).1 t k
    · rw [ht_tr_1 q]
      unfold ht_ns
      split <;> dsimp only <;> omega
    · rw [ht_tr_0 q]
      omega
/-- other trees' cells stay -/
theorem ht_tr_out {j : Nat} (hj : j < t * 7 ∨ t * 7 + 7 ≤ j) : ∀ k, k ≤ 7 → (ht_tr ln cn F RE t σ k).1 j = σ.1 j ∧ (ht_tr ln cn F RE t σ k).2.2.1 j = σ.2.2.1 j
  | 0, _ => ⟨rfl, rfl⟩
  | k + 1, hk => by
    have ih := ht_tr_out hj k (by omega)
    by_cases q : ht_there (ht_tr ln cn F RE t σ k).1 t k
    · rw [ht_tr_1 q]
      unfold ht_ns
      split <;> dsimp only <;> rw [pk_un (by omega), pk_un (by omega)] <;> exact ih
    · rw [ht_tr_0 q]
      exact ih
theorem ht_dv_bd {s : Int} {n b : Nat} (hn : n ≤ 24) (hb : b ≤ 400) (h : s.natAbs ≤ n * b) : (ht_dv (Int32.ofInt s) (nI n)).toInt.natAbs ≤ b := by
  have hnb : n * b ≤ 24 * 400 := Nat.mul_le_mul hn hb
  unfold ht_dv
  by_cases q : nI n ≤ 0
  · rw [if_pos q]
    show (0 : Int).natAbs ≤ b
    omega
  · rw [if_neg q]
    have hn0 : n ≠ 0 := fun z => q ((ht_le0 (by omega)).mpr z)
    have ne1 : nI n ≠ -1 := fun z => by
      have := congrArg Int32.toInt z
      rw [nI_toInt (by omega)] at this
      have e : ((-1 : Int32)).toInt = -1 := by decide
      rw [e] at this
      omega
    rw [Int32.toInt_div_of_ne_right _ _ ne1, nI_toInt (by omega), Int32.toInt_ofInt_of_le (by omega) (by omega), Int.natAbs_tdiv]
    refine Nat.div_le_of_le_mul ?_
    show s.natAbs ≤ n * b
    exact h
/-- the new tree's cells keep their bounds -/
theorem ht_tr_bd {b : Nat} (hln : 0 < ln) (hcn : cn ≤ 24) (hb : b ≤ 400) (hRE : ∀ i, i < cn → (RE i).toInt.natAbs ≤ b) (h : ∀ j, j < 7 → (σ.1 (t * 7 + j)).toInt ≤ 2 ∧ (σ.2.2.1 (t * 7 + j)).toInt.natAbs ≤ b) : ∀ k, k ≤ 7 → ∀ j, j < 7 → ((ht_tr ln cn F RE t σ k).1 (t * 7 + j)).toInt ≤ 2 ∧ ((ht_tr ln cn F RE t σ k).2.2.1 (t * 7 + j)).toInt.natAbs ≤ b
  | 0, _, j, h2 => h j h2
  | k + 1, hk, j, h2 => by
    have ih := ht_tr_bd hln hcn hb hRE h k (by omega) j h2
    by_cases q : ht_there (ht_tr ln cn F RE t σ k).1 t k
    · rw [ht_tr_1 q]
      unfold ht_ns
      split
      · rename_i hz
        dsimp only
        by_cases e : j = k
        · subst e
          rw [pk_us, pk_us]
          exact ⟨by decide, ht_dv_bd (Nat.le_trans ht_zn_le hcn) hb (ht_zs_bd hRE)⟩
        · rw [pk_un (by omega), pk_un (by omega)]
          exact ih
      · rename_i c hz
        dsimp only
        have hc := ht_zd_lt hln hz
        by_cases e : j = k
        · subst e
          rw [pk_us, pk_us, nI_toInt (by omega)]
          refine ⟨by omega, ?_⟩
          show (0 : Int).natAbs ≤ b
          omega
        · rw [pk_un (by omega), pk_un (by omega)]
          exact ih
    · rw [ht_tr_0 q]
      exact ih
end
theorem ht_tr7_1 {ln cn tn : Nat} {F T SF SB LV NR RE ND : Nat → Int32} {k : Nat} {σ : ht_TS} (hσ : σ = ht_tr7 ln cn tn F T SF SB LV NR RE ND k) (h : ht_there σ.1 tn k) : ht_tr7 ln cn tn F T SF SB LV NR RE ND (k + 1) = ht_ns ln cn F (ht_re cn tn F T SF SB LV RE) tn k σ := by
  subst hσ
  exact ht_tr_1 h
theorem ht_tr7_0 {ln cn tn : Nat} {F T SF SB LV NR RE ND : Nat → Int32} {k : Nat} {σ : ht_TS} (hσ : σ = ht_tr7 ln cn tn F T SF SB LV NR RE ND k) (h : ¬ ht_there σ.1 tn k) : σ = ht_tr7 ln cn tn F T SF SB LV NR RE ND (k + 1) := by
  subst hσ
  exact (ht_tr_0 h).symm
theorem ht_t0_SF {cn tn : Nat} {SF SB LV NR ND : Nat → Int32} (j : Nat) (h : j < 7) : (ht_t0 cn tn SF SB LV NR ND).1 (tn * 7 + j) = (-7) := by
  show ht_put SF (tn * 7) 7 (fun _ => (-7)) (tn * 7 + j) = (-7)
  rw [ht_put_in (by omega) (by omega)]
theorem ht_t0_LV {cn tn : Nat} {SF SB LV NR ND : Nat → Int32} (j : Nat) (h : j < 7) : (ht_t0 cn tn SF SB LV NR ND).2.2.1 (tn * 7 + j) = nI 0 := by
  show ht_put LV (tn * 7) 7 (fun _ => nI 0) (tn * 7 + j) = nI 0
  rw [ht_put_in (by omega) (by omega)]
theorem ht_t0_ND {cn tn : Nat} {SF SB LV NR ND : Nat → Int32} (i : Nat) (h : i < cn) : (ht_t0 cn tn SF SB LV NR ND).2.2.2.2.1 i = nI 0 := by
  show ht_put ND 0 cn (fun _ => nI 0) i = nI 0
  rw [ht_put_in (by omega) (by omega)]
end
section
variable (l : Launch) (D : va_G) (dA : ClassId) (ad : Nat → Nat) (ln cn tn : Nat) (bf bb : Int32) (bt bo : Int64) (F T SF SB LV NR RE ND CR CS : Nat → Int32)
set_option maxHeartbeats 4000000 in
set_option maxRecDepth 100000 in
theorem xt_grow (t nd : Nat) (ht : t < 4) (hnd : nd < 7) (hcn : cn ≤ 24) (hln : 0 < ln) (hln2 : ln ≤ 12) (hRE : ∀ i, i < cn → (RE i).toInt.natAbs ≤ 400) (hOK : ht_OK CR CS F RE cn t nd SF ND) (hth : ht_there SF t nd) : ht_MI l D dA yX1_grow (ws_ yX1_grow cX1_grow 4 (some .int)) 4 94 [.ref (ad 0), .int (nI t), .int (nI nd)] (ht_X ad dA (nI ln) (nI cn) (nI tn) bf bb bt bo F T SF SB LV NR RE ND CR CS) (S := ht_f3 × ht_f3 × ht_f3 × ht_f3 × ht_f3 × ht_f3 × ht_f3 × ht_B) (fun (r : Int32) (u : ht_f3 × ht_f3 × ht_f3 × ht_f3 × ht_f3 × ht_f3 × ht_f3 × ht_B) => ∃ d : Nat, r = nI d ∧ (∀ lv : Nat, ht_ns ln cn F RE t nd (SF, SB, LV, NR, ND, lv) = (u.1, u.2.1, u.2.2.1, u.2.2.2.1, u.2.2.2.2.1, lv + d)) ∧ ht_OK u.2.2.2.2.2.1 u.2.2.2.2.2.2.1 F RE cn t (nd + 1) u.1 u.2.2.2.2.1) (fun (u : ht_f3 × ht_f3 × ht_f3 × ht_f3 × ht_f3 × ht_f3 × ht_f3 × ht_B) => ht_X ad dA (nI ln) (nI cn) (nI tn) u.2.2.2.2.2.2.2.1 u.2.2.2.2.2.2.2.2.1 u.2.2.2.2.2.2.2.2.2.1 u.2.2.2.2.2.2.2.2.2.2 F T u.1 u.2.1 u.2.2.1 u.2.2.2.1 RE u.2.2.2.2.1 u.2.2.2.2.2.1 u.2.2.2.2.2.2.1) := by
  refine ht_MI_of (by decide) (Nat.le_of_ble_eq_true rfl) ?_
  intro p e s m below meth c A hx hb hr hlk hml hown hts hK hA I ls hl
  have hown : s.vm.findClass RX1 = some m.cls := hown
  have hl : lv_has ls 4 [(0, .ref (ad 0)), (1, .int (nI t)), (2, .int (nI nd))] := hl
  refine lv_aload_n hx hb dX1_grow_0 rfl (lv_at hl 0 rfl) ?_
  refine lv_iload_n hx hb dX1_grow_1 rfl (lv_at hl 1 rfl) ?_
  refine lv_iload_n hx hb dX1_grow_2 rfl (lv_at hl 2 rfl) ?_
  obtain ⟨hh1, hh2⟩ := hOK.1 nd (Nat.le_refl nd) hnd hth
  obtain ⟨eN, eS, eC⟩ := ht_class_node (SF := SF) (SB := SB) (LV := LV) (a := t * 7 + nd) (bf := bf) (bb := bb) (bt := bt) (bo := bo) hln hln2 hcn hRE hh1 hh2
  refine ht_callVi (As := [.int (nI t), .int (nI nd)]) (rest := []) (wr := []) (q0 := 0) (ci := 0) hx hb hml hown hts hK hA I (xt_splitNode l D dA ad ln cn tn bf bb bt bo F T SF SB LV NR RE ND CR CS t nd ht hnd) (cwV 2 hts (lw_V q132 q134 qs7 q26 q135) rfl rfl rfl (by decide +kernel) (by decide)) rfl rfl [0, 1, 2, 3, 4, 5, 6, 7, 8, 9, 10] [] rfl rfl (by decide) (by decide) (by decide) rfl hl.1 rfl (Nat.le_of_ble_eq_true rfl) dX1_grow_3 (by decide) (fun r u H locs hp I => ?_)
  obtain ⟨u1, u2, u3, u4⟩ := u
  obtain ⟨hp1, hp2⟩ := hp
  dsimp only at hp1 hp2
  rw [hp2, eN, eS, eC] at hp1
  rw [eN] at I
  have I : ht_I D A s.heap (ht_X ad dA (nI ln) (nI cn) (nI tn) u4.1 u4.2.1 u4.2.2.1 u4.2.2.2 F T u1 u2 u3 (upd NR (t * 7 + nd) (nI (ht_zn cn ND nd))) RE ND CR CS) H locs := I
  clear hp2 eC
  cases hz : ht_zd ln cn F RE ND nd with
  | none =>
    rw [hz] at hp1
    simp only [Prod.mk.injEq] at hp1
    obtain ⟨rfl, rfl, hu2, rfl⟩ := hp1
    have hu2 := hu2.symm
    subst hu2
    refine lv_istore_n (lv' := [(3, .int (nI 0)), (0, .ref (ad 0)), (1, .int (nI t)), (2, .int (nI nd))]) hx hb dX1_grow_6 rfl hl (by decide) rfl (fun ls hl => ?_)
    refine lv_iload_n hx hb dX1_grow_7 rfl (lv_at hl 0 rfl) ?_
    refine lv_if_eq (tgt := 17) hx hb dX1_grow_8 (by decide) (fun c_1 => ?_) (fun c_1 => ?_)
    · refine lv_iload_n hx hb dX1_grow_17 rfl (lv_at hl 0 rfl) ?_
      refine lv_if_eq (tgt := 25) hx hb dX1_grow_18 (by decide) (fun c_2 => ?_) (fun c_2 => ?_)
      · refine lv_iconst (v := nI 1) hx hb dX1_grow_25 (by decide) ?_
        exact ht_iret hx hb hr hlk hK I (w2 := fun (u : ht_f3 × ht_f3 × ht_f3 × ht_f3 × ht_f3 × ht_f3 × ht_f3 × ht_B) => ht_X ad dA (nI ln) (nI cn) (nI tn) u.2.2.2.2.2.2.2.1 u.2.2.2.2.2.2.2.2.1 u.2.2.2.2.2.2.2.2.2.1 u.2.2.2.2.2.2.2.2.2.2 F T u.1 u.2.1 u.2.2.1 u.2.2.2.1 RE u.2.2.2.2.1 u.2.2.2.2.2.1 u.2.2.2.2.2.2.1) (upd SF (t * 7 + nd) (-6), SB, upd LV (t * 7 + nd) (ht_dv (Int32.ofInt (ht_zs cn RE ND nd)) (nI (ht_zn cn ND nd))), upd NR (t * 7 + nd) (nI (ht_zn cn ND nd)), ND, CR, CS, u4) ⟨1, rfl, fun lv => by unfold ht_ns; dsimp only; rw [hz]; (try rfl), ht_OK_leaf hnd hOK⟩ rfl dX1_grow_26
      · exact absurd nI_0 c_2
    · exact absurd nI_0 c_1
  | some k =>
    rw [hz] at hp1
    simp only [Prod.mk.injEq] at hp1
    obtain ⟨rfl, rfl, rfl, rfl⟩ := hp1
    obtain ⟨hk21, hnd3, -⟩ := ht_zd_lt hln hz
    refine lv_istore_n (lv' := [(3, .int (nI 1)), (0, .ref (ad 0)), (1, .int (nI t)), (2, .int (nI nd))]) hx hb dX1_grow_6 rfl hl (by decide) rfl (fun ls hl => ?_)
    refine lv_iload_n hx hb dX1_grow_7 rfl (lv_at hl 0 rfl) ?_
    refine lv_if_eq (tgt := 17) hx hb dX1_grow_8 (by decide) (fun c_3 => ?_) (fun c_3 => ?_)
    · exact absurd c_3 (by decide)
    · refine lv_aload_n hx hb dX1_grow_11 rfl (lv_at hl 1 rfl) ?_
      refine lv_iload_n hx hb dX1_grow_12 rfl (lv_at hl 2 rfl) ?_
      refine lv_iload_n hx hb dX1_grow_13 rfl (lv_at hl 3 rfl) ?_
      refine ht_callVv (As := [.int (nI t), .int (nI nd)]) (rest := []) (wr := []) (q0 := 0) (ci := 0) hx hb hml hown hts hK hA I (xt_part l D dA ad ln cn tn u4.1 u4.2.1 u4.2.2.1 u4.2.2.2 F T (upd SF (t * 7 + nd) (nI (k / 7))) (upd SB (t * 7 + nd) (nI (k % 7))) (upd LV (t * 7 + nd) (nI 0)) (upd NR (t * 7 + nd) (nI (ht_zn cn ND nd))) RE ND CR CS t nd ht hnd3 hcn) (cwV 2 hts (lw_V q156 q158 qs13 q26 q159) rfl rfl rfl (by decide +kernel) (by decide)) rfl rfl [0, 1, 2, 3, 4, 5, 6, 7, 8, 9, 10] [] rfl rfl (by decide) (by decide) (by decide) rfl hl.1 rfl (Nat.le_of_ble_eq_true rfl) dX1_grow_14 (by decide) (fun v H locs hv I => ?_)
      obtain ⟨v1, v2, v3⟩ := v
      obtain ⟨sm, lg, hsl, hv1, hv2, hv3⟩ := hv
      dsimp only at hv1 hv2 hv3
      rw [pk_us, pk_us] at hv1
      have I : ht_I D A s.heap (ht_X ad dA (nI ln) (nI cn) (nI tn) u4.1 u4.2.1 u4.2.2.1 u4.2.2.2 F T (upd SF (t * 7 + nd) (nI (k / 7))) (upd SB (t * 7 + nd) (nI (k % 7))) (upd LV (t * 7 + nd) (nI 0)) (upd NR (t * 7 + nd) (nI (ht_zn cn ND nd))) RE v1 v2 v3) H locs := I
      refine lv_iload_n hx hb dX1_grow_17 rfl (lv_at hl 0 rfl) ?_
      refine lv_if_eq (tgt := 25) hx hb dX1_grow_18 (by decide) (fun c_4 => ?_) (fun c_4 => ?_)
      · exact absurd c_4 (by decide)
      · refine lv_iconst (v := nI 0) hx hb dX1_grow_21 (by decide) ?_
        refine lv_goto (tgt := 26) hx hb dX1_grow_22 (by decide) ?_
        exact ht_iret hx hb hr hlk hK I (w2 := fun (u : ht_f3 × ht_f3 × ht_f3 × ht_f3 × ht_f3 × ht_f3 × ht_f3 × ht_B) => ht_X ad dA (nI ln) (nI cn) (nI tn) u.2.2.2.2.2.2.2.1 u.2.2.2.2.2.2.2.2.1 u.2.2.2.2.2.2.2.2.2.1 u.2.2.2.2.2.2.2.2.2.2 F T u.1 u.2.1 u.2.2.1 u.2.2.2.1 RE u.2.2.2.2.1 u.2.2.2.2.2.1 u.2.2.2.2.2.2.1) (upd SF (t * 7 + nd) (nI (k / 7)), upd SB (t * 7 + nd) (nI (k % 7)), upd LV (t * 7 + nd) (nI 0), upd NR (t * 7 + nd) (nI (ht_zn cn ND nd)), v1, v2, v3, u4) ⟨0, rfl, fun lv => by unfold ht_ns; dsimp only; rw [hz, hv1]; (try rfl), by dsimp only; rw [hv2, hv3]; exact ht_OK_split hnd3 hOK hth (by omega) hsl hv1⟩ rfl dX1_grow_26
set_option maxHeartbeats 4000000 in
set_option maxRecDepth 100000 in
theorem xt_train (htn : tn ≤ 4) (hcn : cn ≤ 24) (hln : 0 < ln) (hln2 : ln ≤ 12) (hRE : tn < 4 → ∀ i, i < cn → (ht_rest SF SB LV F T tn i).toInt.natAbs ≤ 400) : ht_MI l D dA yX1_train (ws_ yX1_train cX1_train 5 (some .int)) 5 117 [.ref (ad 0)] (ht_X ad dA (nI ln) (nI cn) (nI tn) bf bb bt bo F T SF SB LV NR RE ND CR CS) (S := ht_U × ht_f3 × ht_f3 × ht_B) (fun (r : Int32) (u : ht_U × ht_f3 × ht_f3 × ht_B) => (r, u.1) = ht_train ln cn tn F T SF SB LV NR RE ND) (fun (u : ht_U × ht_f3 × ht_f3 × ht_B) => ht_X ad dA (nI ln) (nI cn) (nI u.1.1) u.2.2.2.1 u.2.2.2.2.1 u.2.2.2.2.2.1 u.2.2.2.2.2.2 F T u.1.2.1 u.1.2.2.1 u.1.2.2.2.1 u.1.2.2.2.2.1 u.1.2.2.2.2.2.1 u.1.2.2.2.2.2.2 u.2.1 u.2.2.1) := by
  refine ht_MI_of (by decide) (Nat.le_of_ble_eq_true rfl) ?_
  intro p e s m below meth c A hx hb hr hlk hml hown hts hK hA I ls hl
  have hown : s.vm.findClass RX1 = some m.cls := hown
  have hl : lv_has ls 5 [(0, .ref (ad 0))] := hl
  refine lv_aload_n hx hb dX1_train_0 rfl (lv_at hl 0 rfl) ?_
  refine ht_getX hx hb hts hown hK I 4 (by decide) q40 rfl rfl dX1_train_1 ?_
  refine lv_iconst (v := nI 4) hx hb dX1_train_4 (by decide) ?_
  refine ht_lt (tgt := 11) hx hb dX1_train_5 (by decide) (by omega) (by omega) (fun c_1 => ?_) (fun c_1 => ?_)
  · have hREb := ht_re_bd (RE := RE) (hRE c_1)
    have loop3 : ∀ (n k : Nat) (σ : ht_TS) (cR cS : ht_f3) (bf2 bb2 : Int32) (bt2 bo2 : Int64), k + n = 7 → σ = (ht_tr7 ln cn tn F T SF SB LV NR RE ND (k)) → ht_OK cR cS F (ht_re cn tn F T SF SB LV RE) cn tn k σ.1 σ.2.2.2.2.1 → ∀ (H : Heap) (locs : List Loc), ht_I D A s.heap (ht_X ad dA (nI ln) (nI cn) (nI tn) bf2 bb2 bt2 bo2 F T σ.1 σ.2.1 σ.2.2.1 σ.2.2.2.1 (ht_re cn tn F T SF SB LV RE) σ.2.2.2.2.1 cR cS) H locs → ∀ ls : Array Slot, lv_has ls 5 [(3, .int (nI k)), (2, .int (nI σ.2.2.2.2.2)), (1, .int (nI tn)), (0, .ref (ad 0))] → W p l e (ht_Rm 5 117) s m ([.ref (ad 0)] : List Value).toArray below meth c H locs 0 0 (MQ below (va_Qi (fun (r : Int32) (u : ht_U × ht_f3 × ht_f3 × ht_B) => (r, u.1) = ht_train ln cn tn F T SF SB LV NR RE ND) (fun u_ t_ => ht_Po D dA A ((fun (u : ht_U × ht_f3 × ht_f3 × ht_B) => ht_X ad dA (nI ln) (nI cn) (nI u.1.1) u.2.2.2.1 u.2.2.2.2.1 u.2.2.2.2.2.1 u.2.2.2.2.2.2 F T u.1.2.1 u.1.2.2.1 u.1.2.2.2.1 u.1.2.2.2.2.1 u.1.2.2.2.2.2.1 u.1.2.2.2.2.2.2 u.2.1 u.2.2.1) u_) t_) A) ([.ref (ad 0)] : List Value).toArray s 0 0 A) (F0 m 110 ls []) := by
      intro n
      induction n with
      | zero =>
        intro k σ cR cS bf2 bb2 bt2 bo2 hk hσ hOK H locs I ls hl
        have hlv : σ.2.2.2.2.2 ≤ k := by rw [hσ]; exact ht_tr_leaves k rfl
        refine lv_iload_n hx hb dX1_train_110 rfl (lv_at hl 0 rfl) ?_
        refine lv_bipush (v := nI 7) hx hb dX1_train_111 (by decide) ?_
        refine ht_ge (tgt := 165) hx hb dX1_train_113 (by decide) (by omega) (by omega) (fun c_2 => ?_) (fun c_2 => ?_)
        · have hk7 : k = 7 := by omega
          rw [hk7] at hσ
          refine lv_aload_n hx hb dX1_train_165 rfl (lv_at hl 3 rfl) ?_
          refine lv_dup hx hb dX1_train_166 rfl ?_
          refine ht_getX hx hb hts hown hK I 4 (by decide) q40 rfl rfl dX1_train_167 ?_
          refine lv_iconst (v := nI 1) hx hb dX1_train_170 (by decide) ?_
          refine lv_iadd hx hb dX1_train_171 ?_
          refine ht_ti (nI_add tn 1) ?_
          refine ht_putX (ty := .int) (w3 := ht_X ad dA (nI ln) (nI cn) (nI (tn + 1)) bf2 bb2 bt2 bo2 F T σ.1 σ.2.1 σ.2.2.1 σ.2.2.2.1 (ht_re cn tn F T SF SB LV RE) σ.2.2.2.2.1 cR cS) hx hb hts hown hK I 4 (by decide) q40 rfl (by decide +kernel) rfl rfl rfl (Nat.le_of_ble_eq_true rfl) rfl dX1_train_172 (fun H locs I => ?_)
          refine lv_iload_n hx hb dX1_train_175 rfl (lv_at hl 1 rfl) ?_
          exact ht_iret hx hb hr hlk hK I (w2 := fun (u : ht_U × ht_f3 × ht_f3 × ht_B) => ht_X ad dA (nI ln) (nI cn) (nI u.1.1) u.2.2.2.1 u.2.2.2.2.1 u.2.2.2.2.2.1 u.2.2.2.2.2.2 F T u.1.2.1 u.1.2.2.1 u.1.2.2.2.1 u.1.2.2.2.2.1 u.1.2.2.2.2.2.1 u.1.2.2.2.2.2.2 u.2.1 u.2.2.1) ((tn + 1, σ.1, σ.2.1, σ.2.2.1, σ.2.2.2.1, (ht_re cn tn F T SF SB LV RE), σ.2.2.2.2.1), cR, cS, (bf2, bb2, bt2, bo2)) (by unfold ht_train; rw [if_pos c_1, ← hσ]) rfl dX1_train_176
        · exact absurd c_2 (by omega)
      | succ n ih =>
        intro k σ cR cS bf2 bb2 bt2 bo2 hk hσ hOK H locs I ls hl
        have hlv : σ.2.2.2.2.2 ≤ k := by rw [hσ]; exact ht_tr_leaves k rfl
        refine lv_iload_n hx hb dX1_train_110 rfl (lv_at hl 0 rfl) ?_
        refine lv_bipush (v := nI 7) hx hb dX1_train_111 (by decide) ?_
        refine ht_ge (tgt := 165) hx hb dX1_train_113 (by decide) (by omega) (by omega) (fun c_3 => ?_) (fun c_3 => ?_)
        · exact absurd c_3 (by omega)
        · refine lv_iload_n hx hb dX1_train_116 rfl (lv_at hl 0 rfl) ?_
          refine lv_if_eq (tgt := 138) hx hb dX1_train_117 (by decide) (fun c_4 => ?_) (fun c_4 => ?_)
          · have hk0 : k = 0 := Decidable.byContradiction (fun q => nI_ne0 (by omega) (by omega) c_4)
            have hth : ht_there σ.1 tn k := Or.inl hk0
            refine lv_iconst (v := nI 1) hx hb dX1_train_138 (by decide) ?_
            refine lv_goto (tgt := 143) hx hb dX1_train_139 (by decide) ?_
            refine lv_istore (lv' := [(4, .int (nI 1)), (3, .int (nI k)), (2, .int (nI σ.2.2.2.2.2)), (1, .int (nI tn)), (0, .ref (ad 0))]) hx hb dX1_train_143 hl (by decide) rfl (fun ls hl => ?_)
            refine lv_iload hx hb dX1_train_145 (lv_at hl 0 rfl) ?_
            refine lv_if_eq (tgt := 159) hx hb dX1_train_147 (by decide) (fun c_5 => ?_) (fun c_5 => ?_)
            · exact absurd c_5 (by decide)
            · refine lv_iload_n hx hb dX1_train_150 rfl (lv_at hl 2 rfl) ?_
              refine lv_aload_n hx hb dX1_train_151 rfl (lv_at hl 4 rfl) ?_
              refine lv_iload_n hx hb dX1_train_152 rfl (lv_at hl 3 rfl) ?_
              refine lv_iload_n hx hb dX1_train_153 rfl (lv_at hl 1 rfl) ?_
              refine ht_callVi (As := [.int (nI tn), .int (nI k)]) (rest := [.int (nI σ.2.2.2.2.2)]) (wr := []) (q0 := 0) (ci := 0) hx hb hml hown hts hK hA I (xt_grow l D dA ad ln cn tn bf2 bb2 bt2 bo2 F T σ.1 σ.2.1 σ.2.2.1 σ.2.2.2.1 (ht_re cn tn F T SF SB LV RE) σ.2.2.2.2.1 cR cS tn k c_1 (by omega) hcn hln hln2 hREb hOK hth) (cwV 2 hts (lw_V q128 q130 qs6 q26 q131) rfl rfl rfl (by decide +kernel) (by decide)) rfl rfl [0, 1, 2, 3, 4, 5, 6, 7, 8, 9, 10] [] rfl rfl (by decide) (by decide) (by decide) rfl hl.1 rfl (Nat.le_of_ble_eq_true rfl) dX1_train_154 (by decide) (fun r g H locs hg I => ?_)
              obtain ⟨g1, g2, g3, g4, g5, g6, g7, g8⟩ := g
              obtain ⟨d, rfl, hg2, hOK2⟩ := hg
              dsimp only at hg2 hOK2
              have e_ : (g1, g2, g3, g4, g5, σ.2.2.2.2.2 + d) = (ht_tr7 ln cn tn F T SF SB LV NR RE ND (k + 1)) := ((ht_tr7_1 hσ hth).trans (hg2 σ.2.2.2.2.2)).symm
              have I : ht_I D A s.heap (ht_X ad dA (nI ln) (nI cn) (nI tn) g8.1 g8.2.1 g8.2.2.1 g8.2.2.2 F T g1 g2 g3 g4 (ht_re cn tn F T SF SB LV RE) g5 g6 g7) H locs := I
              refine lv_iadd hx hb dX1_train_157 ?_
              refine ht_ti (nI_add σ.2.2.2.2.2 d) ?_
              refine lv_istore_n (lv' := [(2, .int (nI (σ.2.2.2.2.2 + d))), (4, .int (nI 1)), (3, .int (nI k)), (1, .int (nI tn)), (0, .ref (ad 0))]) hx hb dX1_train_158 rfl hl (by decide) rfl (fun ls hl => ?_)
              refine lv_iinc (v := (nI (k + 1))) (lv' := [(3, .int (nI (k + 1))), (2, .int (nI (σ.2.2.2.2.2 + d))), (4, .int (nI 1)), (1, .int (nI tn)), (0, .ref (ad 0))]) hx hb dX1_train_159 hl (k := 2) rfl (nI_add k 1) (by decide) rfl (fun ls hl => ?_)
              refine lv_goto (tgt := 110) hx hb dX1_train_162 (by decide) ?_
              exact ih (k + 1) (g1, g2, g3, g4, g5, σ.2.2.2.2.2 + d) g6 g7 g8.1 g8.2.1 g8.2.2.1 g8.2.2.2 (by omega) e_ hOK2 _ _ I ls (lv_sub hl [0, 1, 3, 4] rfl)
          · have hk0 : k ≠ 0 := fun q => c_4 (by rw [q]; rfl)
            refine lv_aload_n hx hb dX1_train_120 rfl (lv_at hl 3 rfl) ?_
            refine ht_getX hx hb hts hown hK I 5 (by decide) q41 rfl rfl dX1_train_121 ?_
            refine lv_iload_n hx hb dX1_train_124 rfl (lv_at hl 2 rfl) ?_
            refine lv_bipush (v := nI 7) hx hb dX1_train_125 (by decide) ?_
            refine lv_imul hx hb dX1_train_127 ?_
            refine ht_ti (pk_mul tn 7) ?_
            refine lv_iload_n hx hb dX1_train_128 rfl (lv_at hl 0 rfl) ?_
            refine lv_iconst (v := nI 1) hx hb dX1_train_129 (by decide) ?_
            refine lv_isub hx hb dX1_train_130 ?_
            refine ht_ti (pk_sub (a := k) (b := 1) (by omega)) ?_
            refine lv_iconst (v := nI 2) hx hb dX1_train_131 (by decide) ?_
            refine lv_idiv hx hb dX1_train_132 (by decide) ?_
            refine ht_ti (pk_div (a := k - 1) (d := 2) (by omega) (by omega) (by omega)) ?_
            refine lv_iadd hx hb dX1_train_133 ?_
            refine ht_ti (nI_add (tn * 7) ((k - 1) / 2)) ?_
            refine ht_ald hx hb hK I 3 rfl (by omega) dX1_train_134 ?_
            refine lv_if_lt (tgt := 142) hx hb dX1_train_135 (by decide) (fun c_6 => ?_) (fun c_6 => ?_)
            · have hth : ¬ ht_there σ.1 tn k := fun z => z.elim hk0 (fun y => y c_6)
              have e_ : σ = (ht_tr7 ln cn tn F T SF SB LV NR RE ND (k + 1)) := ht_tr7_0 hσ hth
              refine lv_iconst (v := nI 0) hx hb dX1_train_142 (by decide) ?_
              refine lv_istore (lv' := [(4, .int (nI 0)), (3, .int (nI k)), (2, .int (nI σ.2.2.2.2.2)), (1, .int (nI tn)), (0, .ref (ad 0))]) hx hb dX1_train_143 hl (by decide) rfl (fun ls hl => ?_)
              refine lv_iload hx hb dX1_train_145 (lv_at hl 0 rfl) ?_
              refine lv_if_eq (tgt := 159) hx hb dX1_train_147 (by decide) (fun c_7 => ?_) (fun c_7 => ?_)
              · refine lv_iinc (v := (nI (k + 1))) (lv' := [(3, .int (nI (k + 1))), (4, .int (nI 0)), (2, .int (nI σ.2.2.2.2.2)), (1, .int (nI tn)), (0, .ref (ad 0))]) hx hb dX1_train_159 hl (k := 1) rfl (nI_add k 1) (by decide) rfl (fun ls hl => ?_)
                refine lv_goto (tgt := 110) hx hb dX1_train_162 (by decide) ?_
                exact ih (k + 1) σ cR cS bf2 bb2 bt2 bo2 (by omega) e_ (ht_OK_skip hOK) _ _ I ls (lv_sub hl [0, 2, 3, 4] rfl)
              · exact absurd nI_0 c_7
            · have hth : ht_there σ.1 tn k := Or.inr c_6
              refine lv_iconst (v := nI 1) hx hb dX1_train_138 (by decide) ?_
              refine lv_goto (tgt := 143) hx hb dX1_train_139 (by decide) ?_
              refine lv_istore (lv' := [(4, .int (nI 1)), (3, .int (nI k)), (2, .int (nI σ.2.2.2.2.2)), (1, .int (nI tn)), (0, .ref (ad 0))]) hx hb dX1_train_143 hl (by decide) rfl (fun ls hl => ?_)
              refine lv_iload hx hb dX1_train_145 (lv_at hl 0 rfl) ?_
              refine lv_if_eq (tgt := 159) hx hb dX1_train_147 (by decide) (fun c_8 => ?_) (fun c_8 => ?_)
              · exact absurd c_8 (by decide)
              · refine lv_iload_n hx hb dX1_train_150 rfl (lv_at hl 2 rfl) ?_
                refine lv_aload_n hx hb dX1_train_151 rfl (lv_at hl 4 rfl) ?_
                refine lv_iload_n hx hb dX1_train_152 rfl (lv_at hl 3 rfl) ?_
                refine lv_iload_n hx hb dX1_train_153 rfl (lv_at hl 1 rfl) ?_
                refine ht_callVi (As := [.int (nI tn), .int (nI k)]) (rest := [.int (nI σ.2.2.2.2.2)]) (wr := []) (q0 := 0) (ci := 0) hx hb hml hown hts hK hA I (xt_grow l D dA ad ln cn tn bf2 bb2 bt2 bo2 F T σ.1 σ.2.1 σ.2.2.1 σ.2.2.2.1 (ht_re cn tn F T SF SB LV RE) σ.2.2.2.2.1 cR cS tn k c_1 (by omega) hcn hln hln2 hREb hOK hth) (cwV 2 hts (lw_V q128 q130 qs6 q26 q131) rfl rfl rfl (by decide +kernel) (by decide)) rfl rfl [0, 1, 2, 3, 4, 5, 6, 7, 8, 9, 10] [] rfl rfl (by decide) (by decide) (by decide) rfl hl.1 rfl (Nat.le_of_ble_eq_true rfl) dX1_train_154 (by decide) (fun r g H locs hg I => ?_)
                obtain ⟨g1, g2, g3, g4, g5, g6, g7, g8⟩ := g
                obtain ⟨d, rfl, hg2, hOK2⟩ := hg
                dsimp only at hg2 hOK2
                have e_ : (g1, g2, g3, g4, g5, σ.2.2.2.2.2 + d) = (ht_tr7 ln cn tn F T SF SB LV NR RE ND (k + 1)) := ((ht_tr7_1 hσ hth).trans (hg2 σ.2.2.2.2.2)).symm
                have I : ht_I D A s.heap (ht_X ad dA (nI ln) (nI cn) (nI tn) g8.1 g8.2.1 g8.2.2.1 g8.2.2.2 F T g1 g2 g3 g4 (ht_re cn tn F T SF SB LV RE) g5 g6 g7) H locs := I
                refine lv_iadd hx hb dX1_train_157 ?_
                refine ht_ti (nI_add σ.2.2.2.2.2 d) ?_
                refine lv_istore_n (lv' := [(2, .int (nI (σ.2.2.2.2.2 + d))), (4, .int (nI 1)), (3, .int (nI k)), (1, .int (nI tn)), (0, .ref (ad 0))]) hx hb dX1_train_158 rfl hl (by decide) rfl (fun ls hl => ?_)
                refine lv_iinc (v := (nI (k + 1))) (lv' := [(3, .int (nI (k + 1))), (2, .int (nI (σ.2.2.2.2.2 + d))), (4, .int (nI 1)), (1, .int (nI tn)), (0, .ref (ad 0))]) hx hb dX1_train_159 hl (k := 2) rfl (nI_add k 1) (by decide) rfl (fun ls hl => ?_)
                refine lv_goto (tgt := 110) hx hb dX1_train_162 (by decide) ?_
                exact ih (k + 1) (g1, g2, g3, g4, g5, σ.2.2.2.2.2 + d) g6 g7 g8.1 g8.2.1 g8.2.2.1 g8.2.2.2 (by omega) e_ hOK2 _ _ I ls (lv_sub hl [0, 1, 3, 4] rfl)
    have loop2 : ∀ (n k : Nat), k + n = 7 → ∀ (H : Heap) (locs : List Loc), ht_I D A s.heap (ht_X ad dA (nI ln) (nI cn) (nI tn) bf bb bt bo F T (ht_put SF (tn * 7) (k) (fun _ => (-7))) SB (ht_put LV (tn * 7) (k) (fun _ => nI 0)) (ht_put NR (tn * 7) (k) (fun _ => nI 0)) (ht_re cn tn F T SF SB LV RE) (ht_put ND 0 cn (fun _ => nI 0)) CR CS) H locs → ∀ ls : Array Slot, lv_has ls 5 [(2, .int (nI k)), (1, .int (nI tn)), (0, .ref (ad 0))] → W p l e (ht_Rm 5 117) s m ([.ref (ad 0)] : List Value).toArray below meth c H locs 0 0 (MQ below (va_Qi (fun (r : Int32) (u : ht_U × ht_f3 × ht_f3 × ht_B) => (r, u.1) = ht_train ln cn tn F T SF SB LV NR RE ND) (fun u_ t_ => ht_Po D dA A ((fun (u : ht_U × ht_f3 × ht_f3 × ht_B) => ht_X ad dA (nI ln) (nI cn) (nI u.1.1) u.2.2.2.1 u.2.2.2.2.1 u.2.2.2.2.2.1 u.2.2.2.2.2.2 F T u.1.2.1 u.1.2.2.1 u.1.2.2.2.1 u.1.2.2.2.2.1 u.1.2.2.2.2.2.1 u.1.2.2.2.2.2.2 u.2.1 u.2.2.1) u_) t_) A) ([.ref (ad 0)] : List Value).toArray s 0 0 A) (F0 m 52 ls []) := by
      intro n
      induction n with
      | zero =>
        intro k hk H locs I ls hl
        refine lv_iload_n hx hb dX1_train_52 rfl (lv_at hl 0 rfl) ?_
        refine lv_bipush (v := nI 7) hx hb dX1_train_53 (by decide) ?_
        refine ht_ge (tgt := 101) hx hb dX1_train_55 (by decide) (by omega) (by omega) (fun c_9 => ?_) (fun c_9 => ?_)
        · obtain rfl : k = 7 := by omega
          refine lv_aload_n hx hb dX1_train_101 rfl (lv_at hl 2 rfl) ?_
          refine lv_iconst (v := nI 0) hx hb dX1_train_102 (by decide) ?_
          refine ht_callVv (As := [.int (nI 0)]) (rest := []) (wr := []) (q0 := 0) (ci := 0) hx hb hml hown hts hK hA I (xt_fromRows l D dA ad ln cn tn bf bb bt bo F T (ht_put SF (tn * 7) (7) (fun _ => (-7))) SB (ht_put LV (tn * 7) (7) (fun _ => nI 0)) (ht_put NR (tn * 7) (7) (fun _ => nI 0)) (ht_re cn tn F T SF SB LV RE) (ht_put ND 0 cn (fun _ => nI 0)) CR CS 0 (by omega) hcn) (cwV 1 hts (lw_V q116 q118 qs3 q26 q119) rfl rfl rfl (by decide +kernel) (by decide)) rfl rfl [0, 1, 2, 3, 4, 5, 6, 7, 8, 9, 10] [] rfl rfl (by decide) (by decide) (by decide) rfl hl.1 rfl (Nat.le_of_ble_eq_true rfl) dX1_train_103 (by decide) (fun u H locs hp I => ?_)
          have I : ht_I D A s.heap (ht_X ad dA (nI ln) (nI cn) (nI tn) bf bb bt bo F T (ht_put SF (tn * 7) (7) (fun _ => (-7))) SB (ht_put LV (tn * 7) (7) (fun _ => nI 0)) (ht_put NR (tn * 7) (7) (fun _ => nI 0)) (ht_re cn tn F T SF SB LV RE) (ht_put ND 0 cn (fun _ => nI 0)) (ht_fr CR F (ht_put ND 0 cn (fun _ => nI 0)) (fun _ => nI 1) 0 cn) (ht_fr CS F (ht_put ND 0 cn (fun _ => nI 0)) (ht_re cn tn F T SF SB LV RE) 0 cn)) H locs := I
          refine lv_iconst (v := nI 0) hx hb dX1_train_106 (by decide) ?_
          refine lv_istore_n (lv' := [(2, .int (nI 0)), (1, .int (nI tn)), (0, .ref (ad 0))]) hx hb dX1_train_107 rfl hl (by decide) rfl (fun ls hl => ?_)
          refine lv_iconst (v := nI 0) hx hb dX1_train_108 (by decide) ?_
          refine lv_istore_n (lv' := [(3, .int (nI 0)), (2, .int (nI 0)), (1, .int (nI tn)), (0, .ref (ad 0))]) hx hb dX1_train_109 rfl hl (by decide) rfl (fun ls hl => ?_)
          exact loop3 7 0 (ht_t0 cn tn SF SB LV NR ND) _ _ _ _ _ _ (by omega) rfl (ht_OK_init ht_t0_SF ht_t0_ND) _ _ I ls (lv_sub hl [0, 1, 2, 3] rfl)
        · exact absurd c_9 (by omega)
      | succ n ih =>
        intro k hk H locs I ls hl
        refine lv_iload_n hx hb dX1_train_52 rfl (lv_at hl 0 rfl) ?_
        refine lv_bipush (v := nI 7) hx hb dX1_train_53 (by decide) ?_
        refine ht_ge (tgt := 101) hx hb dX1_train_55 (by decide) (by omega) (by omega) (fun c_10 => ?_) (fun c_10 => ?_)
        · exact absurd c_10 (by omega)
        · refine lv_aload_n hx hb dX1_train_58 rfl (lv_at hl 2 rfl) ?_
          refine ht_getX hx hb hts hown hK I 5 (by decide) q41 rfl rfl dX1_train_59 ?_
          refine lv_iload_n hx hb dX1_train_62 rfl (lv_at hl 1 rfl) ?_
          refine lv_bipush (v := nI 7) hx hb dX1_train_63 (by decide) ?_
          refine lv_imul hx hb dX1_train_65 ?_
          refine ht_ti (pk_mul tn 7) ?_
          refine lv_iload_n hx hb dX1_train_66 rfl (lv_at hl 0 rfl) ?_
          refine lv_iadd hx hb dX1_train_67 ?_
          refine ht_ti (nI_add (tn * 7) k) ?_
          refine lv_bipush (v := (-7)) hx hb dX1_train_68 (by decide) ?_
          refine ht_ast (w3 := ht_X ad dA (nI ln) (nI cn) (nI tn) bf bb bt bo F T (upd (ht_put SF (tn * 7) (k) (fun _ => (-7))) (tn * 7 + k) (-7 : Int32)) SB (ht_put LV (tn * 7) (k) (fun _ => nI 0)) (ht_put NR (tn * 7) (k) (fun _ => nI 0)) (ht_re cn tn F T SF SB LV RE) (ht_put ND 0 cn (fun _ => nI 0)) CR CS) hx hb hK I 3 rfl (by omega) rfl dX1_train_70 (fun H locs I => ?_)
          refine lv_aload_n hx hb dX1_train_71 rfl (lv_at hl 2 rfl) ?_
          refine ht_getX hx hb hts hown hK I 7 (by decide) q43 rfl rfl dX1_train_72 ?_
          refine lv_iload_n hx hb dX1_train_75 rfl (lv_at hl 1 rfl) ?_
          refine lv_bipush (v := nI 7) hx hb dX1_train_76 (by decide) ?_
          refine lv_imul hx hb dX1_train_78 ?_
          refine ht_ti (pk_mul tn 7) ?_
          refine lv_iload_n hx hb dX1_train_79 rfl (lv_at hl 0 rfl) ?_
          refine lv_iadd hx hb dX1_train_80 ?_
          refine ht_ti (nI_add (tn * 7) k) ?_
          refine lv_iconst (v := nI 0) hx hb dX1_train_81 (by decide) ?_
          refine ht_ast (w3 := ht_X ad dA (nI ln) (nI cn) (nI tn) bf bb bt bo F T (upd (ht_put SF (tn * 7) (k) (fun _ => (-7))) (tn * 7 + k) (-7 : Int32)) SB (upd (ht_put LV (tn * 7) (k) (fun _ => nI 0)) (tn * 7 + k) (nI 0)) (ht_put NR (tn * 7) (k) (fun _ => nI 0)) (ht_re cn tn F T SF SB LV RE) (ht_put ND 0 cn (fun _ => nI 0)) CR CS) hx hb hK I 5 rfl (by omega) rfl dX1_train_82 (fun H locs I => ?_)
          refine lv_aload_n hx hb dX1_train_83 rfl (lv_at hl 2 rfl) ?_
          refine ht_getX hx hb hts hown hK I 8 (by decide) q44 rfl rfl dX1_train_84 ?_
          refine lv_iload_n hx hb dX1_train_87 rfl (lv_at hl 1 rfl) ?_
          refine lv_bipush (v := nI 7) hx hb dX1_train_88 (by decide) ?_
          refine lv_imul hx hb dX1_train_90 ?_
          refine ht_ti (pk_mul tn 7) ?_
          refine lv_iload_n hx hb dX1_train_91 rfl (lv_at hl 0 rfl) ?_
          refine lv_iadd hx hb dX1_train_92 ?_
          refine ht_ti (nI_add (tn * 7) k) ?_
          refine lv_iconst (v := nI 0) hx hb dX1_train_93 (by decide) ?_
          refine ht_ast (w3 := ht_X ad dA (nI ln) (nI cn) (nI tn) bf bb bt bo F T (upd (ht_put SF (tn * 7) (k) (fun _ => (-7))) (tn * 7 + k) (-7 : Int32)) SB (upd (ht_put LV (tn * 7) (k) (fun _ => nI 0)) (tn * 7 + k) (nI 0)) (upd (ht_put NR (tn * 7) (k) (fun _ => nI 0)) (tn * 7 + k) (nI 0)) (ht_re cn tn F T SF SB LV RE) (ht_put ND 0 cn (fun _ => nI 0)) CR CS) hx hb hK I 6 rfl (by omega) rfl dX1_train_94 (fun H locs I => ?_)
          refine lv_iinc (v := (nI (k + 1))) (lv' := [(2, .int (nI (k + 1))), (1, .int (nI tn)), (0, .ref (ad 0))]) hx hb dX1_train_95 hl (k := 0) rfl (nI_add k 1) (by decide) rfl (fun ls hl => ?_)
          refine lv_goto (tgt := 52) hx hb dX1_train_98 (by decide) ?_
          rw [ht_put_s (g := fun _ => (-7)) rfl, ht_put_s (g := fun _ => nI 0) rfl, ht_put_s (g := fun _ => nI 0) rfl] at I
          exact ih (k + 1) (by omega) _ _ I ls (lv_sub hl [0, 1, 2] rfl)
    have loop1 : ∀ (n i : Nat), i + n = cn → ∀ (H : Heap) (locs : List Loc), ht_I D A s.heap (ht_X ad dA (nI ln) (nI cn) (nI tn) bf bb bt bo F T SF SB LV NR (ht_put RE 0 (i) (fun i => ht_rest SF SB LV F T tn i)) (ht_put ND 0 (i) (fun _ => nI 0)) CR CS) H locs → ∀ ls : Array Slot, lv_has ls 5 [(2, .int (nI i)), (1, .int (nI tn)), (0, .ref (ad 0))] → W p l e (ht_Rm 5 117) s m ([.ref (ad 0)] : List Value).toArray below meth c H locs 0 0 (MQ below (va_Qi (fun (r : Int32) (u : ht_U × ht_f3 × ht_f3 × ht_B) => (r, u.1) = ht_train ln cn tn F T SF SB LV NR RE ND) (fun u_ t_ => ht_Po D dA A ((fun (u : ht_U × ht_f3 × ht_f3 × ht_B) => ht_X ad dA (nI ln) (nI cn) (nI u.1.1) u.2.2.2.1 u.2.2.2.2.1 u.2.2.2.2.2.1 u.2.2.2.2.2.2 F T u.1.2.1 u.1.2.2.1 u.1.2.2.2.1 u.1.2.2.2.2.1 u.1.2.2.2.2.2.1 u.1.2.2.2.2.2.2 u.2.1 u.2.2.1) u_) t_) A) ([.ref (ad 0)] : List Value).toArray s 0 0 A) (F0 m 18 ls []) := by
      intro n
      induction n with
      | zero =>
        intro i hi H locs I ls hl
        refine lv_iload_n hx hb dX1_train_18 rfl (lv_at hl 0 rfl) ?_
        refine lv_aload_n hx hb dX1_train_19 rfl (lv_at hl 2 rfl) ?_
        refine ht_getX hx hb hts hown hK I 1 (by decide) q37 rfl rfl dX1_train_20 ?_
        refine ht_ge (tgt := 50) hx hb dX1_train_23 (by decide) (by omega) (by omega) (fun c_11 => ?_) (fun c_11 => ?_)
        · obtain rfl : cn = i := by omega
          refine lv_iconst (v := nI 0) hx hb dX1_train_50 (by decide) ?_
          refine lv_istore_n (lv' := [(2, .int (nI 0)), (1, .int (nI tn)), (0, .ref (ad 0))]) hx hb dX1_train_51 rfl hl (by decide) rfl (fun ls hl => ?_)
          have I := I.to (w3 := ht_X ad dA (nI ln) (nI cn) (nI tn) bf bb bt bo F T (ht_put SF (tn * 7) (0) (fun _ => (-7))) SB (ht_put LV (tn * 7) (0) (fun _ => nI 0)) (ht_put NR (tn * 7) (0) (fun _ => nI 0)) (ht_re cn tn F T SF SB LV RE) (ht_put ND 0 cn (fun _ => nI 0)) CR CS) (by rw [ht_put_0, ht_put_0, ht_put_0]; rfl)
          exact loop2 7 0 (by omega) _ _ I ls (lv_sub hl [0, 1, 2] rfl)
        · exact absurd c_11 (by omega)
      | succ n ih =>
        intro i hi H locs I ls hl
        refine lv_iload_n hx hb dX1_train_18 rfl (lv_at hl 0 rfl) ?_
        refine lv_aload_n hx hb dX1_train_19 rfl (lv_at hl 2 rfl) ?_
        refine ht_getX hx hb hts hown hK I 1 (by decide) q37 rfl rfl dX1_train_20 ?_
        refine ht_ge (tgt := 50) hx hb dX1_train_23 (by decide) (by omega) (by omega) (fun c_12 => ?_) (fun c_12 => ?_)
        · exact absurd c_12 (by omega)
        · refine lv_aload_n hx hb dX1_train_26 rfl (lv_at hl 2 rfl) ?_
          refine ht_getX hx hb hts hown hK I 9 (by decide) q45 rfl rfl dX1_train_27 ?_
          refine lv_iload_n hx hb dX1_train_30 rfl (lv_at hl 0 rfl) ?_
          refine lv_aload_n hx hb dX1_train_31 rfl (lv_at hl 2 rfl) ?_
          refine lv_iload_n hx hb dX1_train_32 rfl (lv_at hl 0 rfl) ?_
          refine ht_callVi (As := [.int (nI i)]) (rest := [.int (nI i), .ref (ad 7)]) (wr := []) (q0 := 0) (ci := 0) hx hb hml hown hts hK hA I (xt_restOf l D dA ad ln cn tn bf bb bt bo F T SF SB LV NR (ht_put RE 0 (i) (fun i => ht_rest SF SB LV F T tn i)) (ht_put ND 0 (i) (fun _ => nI 0)) CR CS i htn (by omega)) (cwV 1 hts (lw_V q101 q103 qs0 q26 q104) rfl rfl rfl (by decide +kernel) (by decide)) rfl rfl [0, 1, 2, 3, 4, 5, 6, 7, 8, 9, 10] [] rfl rfl (by decide) (by decide) (by decide) rfl hl.1 rfl (Nat.le_of_ble_eq_true rfl) dX1_train_33 (by decide) (fun r u H locs hp I => ?_)
          subst hp
          have I : ht_I D A s.heap (ht_X ad dA (nI ln) (nI cn) (nI tn) bf bb bt bo F T SF SB LV NR (ht_put RE 0 (i) (fun i => ht_rest SF SB LV F T tn i)) (ht_put ND 0 (i) (fun _ => nI 0)) CR CS) H locs := I
          refine ht_ast (w3 := ht_X ad dA (nI ln) (nI cn) (nI tn) bf bb bt bo F T SF SB LV NR (upd (ht_put RE 0 (i) (fun i => ht_rest SF SB LV F T tn i)) i (ht_rest SF SB LV F T tn i)) (ht_put ND 0 (i) (fun _ => nI 0)) CR CS) hx hb hK I 7 rfl (by omega) rfl dX1_train_36 (fun H locs I => ?_)
          refine lv_aload_n hx hb dX1_train_37 rfl (lv_at hl 2 rfl) ?_
          refine ht_getX hx hb hts hown hK I 10 (by decide) q46 rfl rfl dX1_train_38 ?_
          refine lv_iload_n hx hb dX1_train_41 rfl (lv_at hl 0 rfl) ?_
          refine lv_iconst (v := nI 0) hx hb dX1_train_42 (by decide) ?_
          refine ht_ast (w3 := ht_X ad dA (nI ln) (nI cn) (nI tn) bf bb bt bo F T SF SB LV NR (upd (ht_put RE 0 (i) (fun i => ht_rest SF SB LV F T tn i)) i (ht_rest SF SB LV F T tn i)) (upd (ht_put ND 0 (i) (fun _ => nI 0)) i (nI 0)) CR CS) hx hb hK I 8 rfl (by omega) rfl dX1_train_43 (fun H locs I => ?_)
          refine lv_iinc (v := (nI (i + 1))) (lv' := [(2, .int (nI (i + 1))), (1, .int (nI tn)), (0, .ref (ad 0))]) hx hb dX1_train_44 hl (k := 0) rfl (nI_add i 1) (by decide) rfl (fun ls hl => ?_)
          refine lv_goto (tgt := 18) hx hb dX1_train_47 (by decide) ?_
          rw [ht_put0_s (g := fun i => ht_rest SF SB LV F T tn i) rfl, ht_put0_s (g := fun _ => nI 0) rfl] at I
          exact ih (i + 1) (by omega) _ _ I ls (lv_sub hl [0, 1, 2] rfl)
    refine lv_aload_n hx hb dX1_train_11 rfl (lv_at hl 0 rfl) ?_
    refine ht_getX hx hb hts hown hK I 4 (by decide) q40 rfl rfl dX1_train_12 ?_
    refine lv_istore_n (lv' := [(1, .int (nI tn)), (0, .ref (ad 0))]) hx hb dX1_train_15 rfl hl (by decide) rfl (fun ls hl => ?_)
    refine lv_iconst (v := nI 0) hx hb dX1_train_16 (by decide) ?_
    refine lv_istore_n (lv' := [(2, .int (nI 0)), (1, .int (nI tn)), (0, .ref (ad 0))]) hx hb dX1_train_17 rfl hl (by decide) rfl (fun ls hl => ?_)
    have I := I.to (w3 := ht_X ad dA (nI ln) (nI cn) (nI tn) bf bb bt bo F T SF SB LV NR (ht_put RE 0 (0) (fun i => ht_rest SF SB LV F T tn i)) (ht_put ND 0 (0) (fun _ => nI 0)) CR CS) (by rw [ht_put_0, ht_put_0])
    exact loop1 cn 0 (by omega) _ _ I ls (lv_sub hl [0, 1, 2] rfl)
  · refine lv_bipush (v := (-3)) hx hb dX1_train_8 (by decide) ?_
    exact ht_iret hx hb hr hlk hK I (w2 := fun (u : ht_U × ht_f3 × ht_f3 × ht_B) => ht_X ad dA (nI ln) (nI cn) (nI u.1.1) u.2.2.2.1 u.2.2.2.2.1 u.2.2.2.2.2.1 u.2.2.2.2.2.2 F T u.1.2.1 u.1.2.2.1 u.1.2.2.2.1 u.1.2.2.2.2.1 u.1.2.2.2.2.2.1 u.1.2.2.2.2.2.2 u.2.1 u.2.2.1) ((tn, SF, SB, LV, NR, RE, ND), CR, CS, (bf, bb, bt, bo)) (by unfold ht_train; rw [if_neg (by omega)]) rfl dX1_train_10
end
section
variable (l : Launch) (D : va_G) (dA : ClassId) (ad : Nat → Nat) (ln cn tn : Nat) (F T SF SB LV NR RE ND : Nat → Int32)
set_option maxHeartbeats 4000000 in
set_option maxRecDepth 100000 in
theorem mt_train (htn : tn ≤ 4) (hcn : cn ≤ 24) (hln : 0 < ln) (hln2 : ln ≤ 12) (hRE : tn < 4 → ∀ i, i < cn → (ht_rest SF SB LV F T tn i).toInt.natAbs ≤ 400) : ht_MI l D dA yX2_train (ws_ yX2_train cX2_train 4 (some .int)) 4 116 [.ref (ad 0)] (ht_M ad dA (nI ln) (nI cn) (nI tn) F T SF SB LV NR RE ND) (S := ht_U) (fun (r : Int32) (u : ht_U) => (r, u) = ht_train ln cn tn F T SF SB LV NR RE ND) (fun (u : ht_U) => ht_M ad dA (nI ln) (nI cn) (nI u.1) F T u.2.1 u.2.2.1 u.2.2.2.1 u.2.2.2.2.1 u.2.2.2.2.2.1 u.2.2.2.2.2.2) := by
  refine ht_MI_of (by decide) (Nat.le_of_ble_eq_true rfl) ?_
  intro p e s m below meth c A hx hb hr hlk hml hown hts hK hA I ls hl
  have hown : s.vm.findClass RX2 = some m.cls := hown
  have hl : lv_has ls 4 [(0, .ref (ad 0))] := hl
  refine lv_aload_n hx hb dX2_train_0 rfl (lv_at hl 0 rfl) ?_
  refine ht_getM hx hb hts hown hK I 4 (by decide) q217 rfl rfl dX2_train_1 ?_
  refine lv_iconst (v := nI 4) hx hb dX2_train_4 (by decide) ?_
  refine ht_ne (tgt := 11) hx hb dX2_train_5 (by decide) (by omega) (by omega) (fun c_1 => ?_) (fun c_1 => ?_)
  · have h4 : tn < 4 := by omega
    have hREb := ht_re_bd (RE := RE) (hRE h4)
    have loop3 : ∀ (n k : Nat) (σ : ht_TS), k + n = 7 → σ = (ht_tr7 ln cn tn F T SF SB LV NR RE ND (k)) → ∀ (H : Heap) (locs : List Loc), ht_I D A s.heap (ht_M ad dA (nI ln) (nI cn) (nI tn) F T (ht_mark σ.1 tn k) σ.2.1 σ.2.2.1 σ.2.2.2.1 (ht_re cn tn F T SF SB LV RE) σ.2.2.2.2.1) H locs → ∀ ls : Array Slot, lv_has ls 4 [(3, .int (nI k)), (2, .int (nI σ.2.2.2.2.2)), (1, .int (nI (tn * 7))), (0, .ref (ad 0))] → W p l e (ht_Rm 4 116) s m ([.ref (ad 0)] : List Value).toArray below meth c H locs 0 0 (MQ below (va_Qi (fun (r : Int32) (u : ht_U) => (r, u) = ht_train ln cn tn F T SF SB LV NR RE ND) (fun u_ t_ => ht_Po D dA A ((fun (u : ht_U) => ht_M ad dA (nI ln) (nI cn) (nI u.1) F T u.2.1 u.2.2.1 u.2.2.2.1 u.2.2.2.2.1 u.2.2.2.2.2.1 u.2.2.2.2.2.2) u_) t_) A) ([.ref (ad 0)] : List Value).toArray s 0 0 A) (F0 m 107 ls []) := by
      intro n
      induction n with
      | zero =>
        intro k σ hk hσ H locs I ls hl
        have hlv : σ.2.2.2.2.2 ≤ k := by rw [hσ]; exact ht_tr_leaves k rfl
        refine lv_iload_n hx hb dX2_train_107 rfl (lv_at hl 0 rfl) ?_
        refine lv_bipush (v := nI 7) hx hb dX2_train_108 (by decide) ?_
        refine ht_ge (tgt := 157) hx hb dX2_train_110 (by decide) (by omega) (by omega) (fun c_2 => ?_) (fun c_2 => ?_)
        · have hk7 : k = 7 := by omega
          rw [hk7] at hσ
          rw [hk7, ht_mark_7] at I
          refine lv_aload_n hx hb dX2_train_157 rfl (lv_at hl 3 rfl) ?_
          refine lv_aload_n hx hb dX2_train_158 rfl (lv_at hl 3 rfl) ?_
          refine ht_getM hx hb hts hown hK I 4 (by decide) q217 rfl rfl dX2_train_159 ?_
          refine lv_iconst (v := nI 1) hx hb dX2_train_162 (by decide) ?_
          refine lv_iadd hx hb dX2_train_163 ?_
          refine ht_ti (nI_add tn 1) ?_
          refine ht_putM (ty := .int) (w3 := ht_M ad dA (nI ln) (nI cn) (nI (tn + 1)) F T σ.1 σ.2.1 σ.2.2.1 σ.2.2.2.1 (ht_re cn tn F T SF SB LV RE) σ.2.2.2.2.1) hx hb hts hown hK I 4 (by decide) q217 rfl (by decide +kernel) rfl rfl rfl (Nat.le_of_ble_eq_true rfl) rfl dX2_train_164 (fun H locs I => ?_)
          refine lv_iload_n hx hb dX2_train_167 rfl (lv_at hl 1 rfl) ?_
          exact ht_iret hx hb hr hlk hK I (w2 := fun (u : ht_U) => ht_M ad dA (nI ln) (nI cn) (nI u.1) F T u.2.1 u.2.2.1 u.2.2.2.1 u.2.2.2.2.1 u.2.2.2.2.2.1 u.2.2.2.2.2.2) (tn + 1, σ.1, σ.2.1, σ.2.2.1, σ.2.2.2.1, (ht_re cn tn F T SF SB LV RE), σ.2.2.2.2.1) (by unfold ht_train; rw [if_pos h4, ← hσ]) rfl dX2_train_168
        · exact absurd c_2 (by omega)
      | succ n ih =>
        intro k σ hk hσ H locs I ls hl
        have hlv : σ.2.2.2.2.2 ≤ k := by rw [hσ]; exact ht_tr_leaves k rfl
        have hnew : σ.1 (tn * 7 + k) = (-7) ∧ σ.2.2.1 (tn * 7 + k) = nI 0 := by rw [hσ]; exact ht_tr_new (fun j hj => ⟨ht_t0_SF j hj, ht_t0_LV j hj⟩) k k (Nat.le_refl k) (by omega)
        have hmk := ht_mark_at (SF := σ.1) (t := tn) (k := k) (by omega)
        refine lv_iload_n hx hb dX2_train_107 rfl (lv_at hl 0 rfl) ?_
        refine lv_bipush (v := nI 7) hx hb dX2_train_108 (by decide) ?_
        refine ht_ge (tgt := 157) hx hb dX2_train_110 (by decide) (by omega) (by omega) (fun c_3 => ?_) (fun c_3 => ?_)
        · exact absurd c_3 (by omega)
        · refine lv_aload_n hx hb dX2_train_113 rfl (lv_at hl 3 rfl) ?_
          refine ht_getM hx hb hts hown hK I 5 (by decide) q218 rfl rfl dX2_train_114 ?_
          refine lv_iload_n hx hb dX2_train_117 rfl (lv_at hl 2 rfl) ?_
          refine lv_iload_n hx hb dX2_train_118 rfl (lv_at hl 0 rfl) ?_
          refine lv_iadd hx hb dX2_train_119 ?_
          refine ht_ti (nI_add (tn * 7) k) ?_
          refine ht_ald hx hb hK I 3 rfl (by omega) dX2_train_120 ?_
          refine lv_bipush (v := (-6)) hx hb dX2_train_121 (by decide) ?_
          refine lv_icmp_ne (tgt := 151) hx hb dX2_train_123 (by decide) (fun c_4 => ?_) (fun c_4 => ?_)
          · have hth : ¬ ht_there σ.1 tn k := fun q => c_4 (by rw [hmk, if_pos q])
            refine lv_iinc (v := (nI (k + 1))) (lv' := [(3, .int (nI (k + 1))), (2, .int (nI σ.2.2.2.2.2)), (1, .int (nI (tn * 7))), (0, .ref (ad 0))]) hx hb dX2_train_151 hl (k := 0) rfl (nI_add k 1) (by decide) rfl (fun ls hl => ?_)
            refine lv_goto (tgt := 107) hx hb dX2_train_154 (by decide) ?_
            rw [← ht_mark_skip hth] at I
            exact ih (k + 1) σ (by omega) (ht_tr7_0 hσ hth) _ _ I ls (lv_sub hl [0, 1, 2, 3] rfl)
          · have hth : ht_there σ.1 tn k := Decidable.byContradiction (fun q => by rw [hmk, if_neg q, hnew.1] at c_4; exact absurd c_4 (by decide))
            obtain ⟨eM1, eM2⟩ := ht_model_node (F := F) (RE := (ht_re cn tn F T SF SB LV RE)) (ND := σ.2.2.2.2.1) (nd := k) (SF := ht_mark σ.1 tn k) (SB := σ.2.1) (LV := σ.2.2.1) (a := tn * 7 + k) hln hln2 hcn hREb c_4 hnew.2
            refine lv_aload_n hx hb dX2_train_126 rfl (lv_at hl 3 rfl) ?_
            refine lv_aload_n hx hb dX2_train_127 rfl (lv_at hl 3 rfl) ?_
            refine ht_getM hx hb hts hown hK I 4 (by decide) q217 rfl rfl dX2_train_128 ?_
            refine lv_iload_n hx hb dX2_train_131 rfl (lv_at hl 0 rfl) ?_
            refine ht_callVv (As := [.int (nI tn), .int (nI k)]) (rest := []) (wr := []) (q0 := 0) (ci := 1) hx hb hml hown hts hK hA I (mt_settle l D dA ad ln cn tn F T (ht_mark σ.1 tn k) σ.2.1 σ.2.2.1 σ.2.2.2.1 (ht_re cn tn F T SF SB LV RE) σ.2.2.2.2.1 tn k h4 (by omega) hcn) (cwV 2 hts (lw_V q279 q281 qs19 q27 q282) rfl rfl rfl (by decide +kernel) (by decide)) rfl rfl [0, 1, 2, 3, 4, 5, 6, 7, 8] [] rfl rfl (by decide) (by decide) (by decide) rfl hl.1 rfl (Nat.le_of_ble_eq_true rfl) dX2_train_132 (by decide) (fun u H locs hp I => ?_)
            obtain ⟨u1, u2, u3, u4⟩ := u
            obtain ⟨hp1, hp2⟩ := hp
            dsimp only at hp1 hp2
            rw [ht_L7] at hp1 hp2 I
            rw [hp1] at hp2
            have hp1 := hp1.trans eM1
            have hp2 := hp2.trans eM2
            clear eM1 eM2
            have I : ht_I D A s.heap (ht_M ad dA (nI ln) (nI cn) (nI tn) F T u1 u2 u3 (upd σ.2.2.2.1 (tn * 7 + k) (nI (ht_zn cn σ.2.2.2.2.1 k))) (ht_re cn tn F T SF SB LV RE) u4) H locs := I
            cases hz : ht_zd ln cn F (ht_re cn tn F T SF SB LV RE) σ.2.2.2.2.1 k with
            | none =>
              rw [hz] at hp1 hp2
              simp only [Prod.mk.injEq] at hp1
              obtain ⟨rfl, rfl, rfl⟩ := hp1
              dsimp only at hp2
              subst hp2
              refine lv_aload_n hx hb dX2_train_135 rfl (lv_at hl 3 rfl) ?_
              refine ht_getM hx hb hts hown hK I 5 (by decide) q218 rfl rfl dX2_train_136 ?_
              refine lv_iload_n hx hb dX2_train_139 rfl (lv_at hl 2 rfl) ?_
              refine lv_iload_n hx hb dX2_train_140 rfl (lv_at hl 0 rfl) ?_
              refine lv_iadd hx hb dX2_train_141 ?_
              refine ht_ti (nI_add (tn * 7) k) ?_
              refine ht_ald hx hb hK I 3 rfl (by omega) dX2_train_142 ?_
              refine lv_bipush (v := (-6)) hx hb dX2_train_143 (by decide) ?_
              refine lv_icmp_ne (tgt := 151) hx hb dX2_train_145 (by decide) (fun c_5 => ?_) (fun c_5 => ?_)
              · exact absurd c_4 c_5
              · refine lv_iinc (v := (nI (σ.2.2.2.2.2 + 1))) (lv' := [(2, .int (nI (σ.2.2.2.2.2 + 1))), (3, .int (nI k)), (1, .int (nI (tn * 7))), (0, .ref (ad 0))]) hx hb dX2_train_148 hl (k := 1) rfl (nI_add σ.2.2.2.2.2 1) (by decide) rfl (fun ls hl => ?_)
                refine lv_iinc (v := (nI (k + 1))) (lv' := [(3, .int (nI (k + 1))), (2, .int (nI (σ.2.2.2.2.2 + 1))), (1, .int (nI (tn * 7))), (0, .ref (ad 0))]) hx hb dX2_train_151 hl (k := 1) rfl (nI_add k 1) (by decide) rfl (fun ls hl => ?_)
                refine lv_goto (tgt := 107) hx hb dX2_train_154 (by decide) ?_
                have e_ : (upd σ.1 (tn * 7 + k) (-6), σ.2.1, upd σ.2.2.1 (tn * 7 + k) (ht_dv (Int32.ofInt (ht_zs cn (ht_re cn tn F T SF SB LV RE) σ.2.2.2.2.1 k)) (nI (ht_zn cn σ.2.2.2.2.1 k))), upd σ.2.2.2.1 (tn * 7 + k) (nI (ht_zn cn σ.2.2.2.2.1 k)), σ.2.2.2.2.1, σ.2.2.2.2.2 + 1) = (ht_tr7 ln cn tn F T SF SB LV NR RE ND (k + 1)) := ((ht_tr7_1 hσ hth).trans (by unfold ht_ns; rw [hz])).symm
                rw [← ht_mark_leaf (by omega) hnew.1 hth] at I
                exact ih (k + 1) (upd σ.1 (tn * 7 + k) (-6), σ.2.1, upd σ.2.2.1 (tn * 7 + k) (ht_dv (Int32.ofInt (ht_zs cn (ht_re cn tn F T SF SB LV RE) σ.2.2.2.2.1 k)) (nI (ht_zn cn σ.2.2.2.2.1 k))), upd σ.2.2.2.1 (tn * 7 + k) (nI (ht_zn cn σ.2.2.2.2.1 k)), σ.2.2.2.2.1, σ.2.2.2.2.2 + 1) (by omega) e_ _ _ I ls (lv_sub hl [0, 1, 2, 3] rfl)
            | some v =>
              rw [hz] at hp1 hp2
              simp only [Prod.mk.injEq] at hp1
              obtain ⟨rfl, rfl, rfl⟩ := hp1
              dsimp only at hp2
              subst hp2
              obtain ⟨hv21, hk3, -⟩ := ht_zd_lt hln hz
              refine lv_aload_n hx hb dX2_train_135 rfl (lv_at hl 3 rfl) ?_
              refine ht_getM hx hb hts hown hK I 5 (by decide) q218 rfl rfl dX2_train_136 ?_
              refine lv_iload_n hx hb dX2_train_139 rfl (lv_at hl 2 rfl) ?_
              refine lv_iload_n hx hb dX2_train_140 rfl (lv_at hl 0 rfl) ?_
              refine lv_iadd hx hb dX2_train_141 ?_
              refine ht_ti (nI_add (tn * 7) k) ?_
              refine ht_ald hx hb hK I 3 rfl (by omega) dX2_train_142 ?_
              refine lv_bipush (v := (-6)) hx hb dX2_train_143 (by decide) ?_
              refine lv_icmp_ne (tgt := 151) hx hb dX2_train_145 (by decide) (fun c_6 => ?_) (fun c_6 => ?_)
              · refine lv_iinc (v := (nI (k + 1))) (lv' := [(3, .int (nI (k + 1))), (2, .int (nI σ.2.2.2.2.2)), (1, .int (nI (tn * 7))), (0, .ref (ad 0))]) hx hb dX2_train_151 hl (k := 0) rfl (nI_add k 1) (by decide) rfl (fun ls hl => ?_)
                refine lv_goto (tgt := 107) hx hb dX2_train_154 (by decide) ?_
                have e_ : (upd σ.1 (tn * 7 + k) (nI (v / 7)), upd σ.2.1 (tn * 7 + k) (nI (v % 7)), upd σ.2.2.1 (tn * 7 + k) (nI 0), upd σ.2.2.2.1 (tn * 7 + k) (nI (ht_zn cn σ.2.2.2.2.1 k)), ht_send F σ.2.2.2.2.1 (nI (v / 7)) (nI (v % 7)) k cn, σ.2.2.2.2.2) = (ht_tr7 ln cn tn F T SF SB LV NR RE ND (k + 1)) := ((ht_tr7_1 hσ hth).trans (by unfold ht_ns; rw [hz])).symm
                rw [← ht_mark_split hk3 (by omega)] at I
                exact ih (k + 1) (upd σ.1 (tn * 7 + k) (nI (v / 7)), upd σ.2.1 (tn * 7 + k) (nI (v % 7)), upd σ.2.2.1 (tn * 7 + k) (nI 0), upd σ.2.2.2.1 (tn * 7 + k) (nI (ht_zn cn σ.2.2.2.2.1 k)), ht_send F σ.2.2.2.2.1 (nI (v / 7)) (nI (v % 7)) k cn, σ.2.2.2.2.2) (by omega) e_ _ _ I ls (lv_sub hl [0, 1, 2, 3] rfl)
              · rw [pk_un (by omega), pk_un (by omega), pk_us] at c_6
                exact absurd (show nI (v / 7) < 0 by rw [c_6]; decide) (nI_pos (by omega))
    have loop2 : ∀ (n k : Nat), k + n = 7 → ∀ (H : Heap) (locs : List Loc), ht_I D A s.heap (ht_M ad dA (nI ln) (nI cn) (nI tn) F T (ht_put SF (tn * 7) (k) (fun _ => (-7))) SB (ht_put LV (tn * 7) (k) (fun _ => nI 0)) (ht_put NR (tn * 7) (k) (fun _ => nI 0)) (ht_re cn tn F T SF SB LV RE) (ht_put ND 0 cn (fun _ => nI 0))) H locs → ∀ ls : Array Slot, lv_has ls 4 [(2, .int (nI k)), (1, .int (nI (tn * 7))), (0, .ref (ad 0))] → W p l e (ht_Rm 4 116) s m ([.ref (ad 0)] : List Value).toArray below meth c H locs 0 0 (MQ below (va_Qi (fun (r : Int32) (u : ht_U) => (r, u) = ht_train ln cn tn F T SF SB LV NR RE ND) (fun u_ t_ => ht_Po D dA A ((fun (u : ht_U) => ht_M ad dA (nI ln) (nI cn) (nI u.1) F T u.2.1 u.2.2.1 u.2.2.2.1 u.2.2.2.2.1 u.2.2.2.2.2.1 u.2.2.2.2.2.2) u_) t_) A) ([.ref (ad 0)] : List Value).toArray s 0 0 A) (F0 m 55 ls []) := by
      intro n
      induction n with
      | zero =>
        intro k hk H locs I ls hl
        refine lv_iload_n hx hb dX2_train_55 rfl (lv_at hl 0 rfl) ?_
        refine lv_bipush (v := nI 7) hx hb dX2_train_56 (by decide) ?_
        refine ht_ge (tgt := 95) hx hb dX2_train_58 (by decide) (by omega) (by omega) (fun c_7 => ?_) (fun c_7 => ?_)
        · obtain rfl : k = 7 := by omega
          refine lv_aload_n hx hb dX2_train_95 rfl (lv_at hl 2 rfl) ?_
          refine ht_getM hx hb hts hown hK I 5 (by decide) q218 rfl rfl dX2_train_96 ?_
          refine lv_iload_n hx hb dX2_train_99 rfl (lv_at hl 1 rfl) ?_
          refine lv_bipush (v := (-6)) hx hb dX2_train_100 (by decide) ?_
          refine ht_ast (w3 := ht_M ad dA (nI ln) (nI cn) (nI tn) F T (upd (ht_put SF (tn * 7) (7) (fun _ => (-7))) (tn * 7) (-6 : Int32)) SB (ht_put LV (tn * 7) (7) (fun _ => nI 0)) (ht_put NR (tn * 7) (7) (fun _ => nI 0)) (ht_re cn tn F T SF SB LV RE) (ht_put ND 0 cn (fun _ => nI 0))) hx hb hK I 3 rfl (by omega) rfl dX2_train_102 (fun H locs I => ?_)
          refine lv_iconst (v := nI 0) hx hb dX2_train_103 (by decide) ?_
          refine lv_istore_n (lv' := [(2, .int (nI 0)), (1, .int (nI (tn * 7))), (0, .ref (ad 0))]) hx hb dX2_train_104 rfl hl (by decide) rfl (fun ls hl => ?_)
          refine lv_iconst (v := nI 0) hx hb dX2_train_105 (by decide) ?_
          refine lv_istore_n (lv' := [(3, .int (nI 0)), (2, .int (nI 0)), (1, .int (nI (tn * 7))), (0, .ref (ad 0))]) hx hb dX2_train_106 rfl hl (by decide) rfl (fun ls hl => ?_)
          have I := I.to (w3 := ht_M ad dA (nI ln) (nI cn) (nI tn) F T (ht_mark (ht_t0 cn tn SF SB LV NR ND).1 tn 0) SB (ht_put LV (tn * 7) (7) (fun _ => nI 0)) (ht_put NR (tn * 7) (7) (fun _ => nI 0)) (ht_re cn tn F T SF SB LV RE) (ht_put ND 0 cn (fun _ => nI 0))) (by rw [ht_mark_0 ht_t0_SF]; rfl)
          exact loop3 7 0 (ht_t0 cn tn SF SB LV NR ND) (by omega) rfl _ _ I ls (lv_sub hl [0, 1, 2, 3] rfl)
        · exact absurd c_7 (by omega)
      | succ n ih =>
        intro k hk H locs I ls hl
        refine lv_iload_n hx hb dX2_train_55 rfl (lv_at hl 0 rfl) ?_
        refine lv_bipush (v := nI 7) hx hb dX2_train_56 (by decide) ?_
        refine ht_ge (tgt := 95) hx hb dX2_train_58 (by decide) (by omega) (by omega) (fun c_8 => ?_) (fun c_8 => ?_)
        · exact absurd c_8 (by omega)
        · refine lv_aload_n hx hb dX2_train_61 rfl (lv_at hl 2 rfl) ?_
          refine ht_getM hx hb hts hown hK I 5 (by decide) q218 rfl rfl dX2_train_62 ?_
          refine lv_iload_n hx hb dX2_train_65 rfl (lv_at hl 1 rfl) ?_
          refine lv_iload_n hx hb dX2_train_66 rfl (lv_at hl 0 rfl) ?_
          refine lv_iadd hx hb dX2_train_67 ?_
          refine ht_ti (nI_add (tn * 7) k) ?_
          refine lv_bipush (v := (-7)) hx hb dX2_train_68 (by decide) ?_
          refine ht_ast (w3 := ht_M ad dA (nI ln) (nI cn) (nI tn) F T (upd (ht_put SF (tn * 7) (k) (fun _ => (-7))) (tn * 7 + k) (-7 : Int32)) SB (ht_put LV (tn * 7) (k) (fun _ => nI 0)) (ht_put NR (tn * 7) (k) (fun _ => nI 0)) (ht_re cn tn F T SF SB LV RE) (ht_put ND 0 cn (fun _ => nI 0))) hx hb hK I 3 rfl (by omega) rfl dX2_train_70 (fun H locs I => ?_)
          refine lv_aload_n hx hb dX2_train_71 rfl (lv_at hl 2 rfl) ?_
          refine ht_getM hx hb hts hown hK I 8 (by decide) q221 rfl rfl dX2_train_72 ?_
          refine lv_iload_n hx hb dX2_train_75 rfl (lv_at hl 1 rfl) ?_
          refine lv_iload_n hx hb dX2_train_76 rfl (lv_at hl 0 rfl) ?_
          refine lv_iadd hx hb dX2_train_77 ?_
          refine ht_ti (nI_add (tn * 7) k) ?_
          refine lv_iconst (v := nI 0) hx hb dX2_train_78 (by decide) ?_
          refine ht_ast (w3 := ht_M ad dA (nI ln) (nI cn) (nI tn) F T (upd (ht_put SF (tn * 7) (k) (fun _ => (-7))) (tn * 7 + k) (-7 : Int32)) SB (ht_put LV (tn * 7) (k) (fun _ => nI 0)) (upd (ht_put NR (tn * 7) (k) (fun _ => nI 0)) (tn * 7 + k) (nI 0)) (ht_re cn tn F T SF SB LV RE) (ht_put ND 0 cn (fun _ => nI 0))) hx hb hK I 6 rfl (by omega) rfl dX2_train_79 (fun H locs I => ?_)
          refine lv_aload_n hx hb dX2_train_80 rfl (lv_at hl 2 rfl) ?_
          refine ht_getM hx hb hts hown hK I 7 (by decide) q220 rfl rfl dX2_train_81 ?_
          refine lv_iload_n hx hb dX2_train_84 rfl (lv_at hl 1 rfl) ?_
          refine lv_iload_n hx hb dX2_train_85 rfl (lv_at hl 0 rfl) ?_
          refine lv_iadd hx hb dX2_train_86 ?_
          refine ht_ti (nI_add (tn * 7) k) ?_
          refine lv_iconst (v := nI 0) hx hb dX2_train_87 (by decide) ?_
          refine ht_ast (w3 := ht_M ad dA (nI ln) (nI cn) (nI tn) F T (upd (ht_put SF (tn * 7) (k) (fun _ => (-7))) (tn * 7 + k) (-7 : Int32)) SB (upd (ht_put LV (tn * 7) (k) (fun _ => nI 0)) (tn * 7 + k) (nI 0)) (upd (ht_put NR (tn * 7) (k) (fun _ => nI 0)) (tn * 7 + k) (nI 0)) (ht_re cn tn F T SF SB LV RE) (ht_put ND 0 cn (fun _ => nI 0))) hx hb hK I 5 rfl (by omega) rfl dX2_train_88 (fun H locs I => ?_)
          refine lv_iinc (v := (nI (k + 1))) (lv' := [(2, .int (nI (k + 1))), (1, .int (nI (tn * 7))), (0, .ref (ad 0))]) hx hb dX2_train_89 hl (k := 0) rfl (nI_add k 1) (by decide) rfl (fun ls hl => ?_)
          refine lv_goto (tgt := 55) hx hb dX2_train_92 (by decide) ?_
          rw [ht_put_s (g := fun _ => (-7)) rfl, ht_put_s (g := fun _ => nI 0) rfl, ht_put_s (g := fun _ => nI 0) rfl] at I
          exact ih (k + 1) (by omega) _ _ I ls (lv_sub hl [0, 1, 2] rfl)
    have loop1 : ∀ (n i : Nat), i + n = cn → ∀ (H : Heap) (locs : List Loc), ht_I D A s.heap (ht_M ad dA (nI ln) (nI cn) (nI tn) F T SF SB LV NR (ht_put RE 0 (i) (fun i => ht_rest SF SB LV F T tn i)) (ht_put ND 0 (i) (fun _ => nI 0))) H locs → ∀ ls : Array Slot, lv_has ls 4 [(1, .int (nI i)), (0, .ref (ad 0))] → W p l e (ht_Rm 4 116) s m ([.ref (ad 0)] : List Value).toArray below meth c H locs 0 0 (MQ below (va_Qi (fun (r : Int32) (u : ht_U) => (r, u) = ht_train ln cn tn F T SF SB LV NR RE ND) (fun u_ t_ => ht_Po D dA A ((fun (u : ht_U) => ht_M ad dA (nI ln) (nI cn) (nI u.1) F T u.2.1 u.2.2.1 u.2.2.2.1 u.2.2.2.2.1 u.2.2.2.2.2.1 u.2.2.2.2.2.2) u_) t_) A) ([.ref (ad 0)] : List Value).toArray s 0 0 A) (F0 m 13 ls []) := by
      intro n
      induction n with
      | zero =>
        intro i hi H locs I ls hl
        refine lv_iload_n hx hb dX2_train_13 rfl (lv_at hl 0 rfl) ?_
        refine lv_aload_n hx hb dX2_train_14 rfl (lv_at hl 1 rfl) ?_
        refine ht_getM hx hb hts hown hK I 1 (by decide) q214 rfl rfl dX2_train_15 ?_
        refine ht_ge (tgt := 45) hx hb dX2_train_18 (by decide) (by omega) (by omega) (fun c_9 => ?_) (fun c_9 => ?_)
        · obtain rfl : cn = i := by omega
          refine lv_aload_n hx hb dX2_train_45 rfl (lv_at hl 1 rfl) ?_
          refine ht_getM hx hb hts hown hK I 4 (by decide) q217 rfl rfl dX2_train_46 ?_
          refine lv_bipush (v := nI 7) hx hb dX2_train_49 (by decide) ?_
          refine lv_imul hx hb dX2_train_51 ?_
          refine ht_ti (pk_mul tn 7) ?_
          refine lv_istore_n (lv' := [(1, .int (nI (tn * 7))), (0, .ref (ad 0))]) hx hb dX2_train_52 rfl hl (by decide) rfl (fun ls hl => ?_)
          refine lv_iconst (v := nI 0) hx hb dX2_train_53 (by decide) ?_
          refine lv_istore_n (lv' := [(2, .int (nI 0)), (1, .int (nI (tn * 7))), (0, .ref (ad 0))]) hx hb dX2_train_54 rfl hl (by decide) rfl (fun ls hl => ?_)
          have I := I.to (w3 := ht_M ad dA (nI ln) (nI cn) (nI tn) F T (ht_put SF (tn * 7) (0) (fun _ => (-7))) SB (ht_put LV (tn * 7) (0) (fun _ => nI 0)) (ht_put NR (tn * 7) (0) (fun _ => nI 0)) (ht_re cn tn F T SF SB LV RE) (ht_put ND 0 cn (fun _ => nI 0))) (by rw [ht_put_0, ht_put_0, ht_put_0]; rfl)
          exact loop2 7 0 (by omega) _ _ I ls (lv_sub hl [0, 1, 2] rfl)
        · exact absurd c_9 (by omega)
      | succ n ih =>
        intro i hi H locs I ls hl
        refine lv_iload_n hx hb dX2_train_13 rfl (lv_at hl 0 rfl) ?_
        refine lv_aload_n hx hb dX2_train_14 rfl (lv_at hl 1 rfl) ?_
        refine ht_getM hx hb hts hown hK I 1 (by decide) q214 rfl rfl dX2_train_15 ?_
        refine ht_ge (tgt := 45) hx hb dX2_train_18 (by decide) (by omega) (by omega) (fun c_10 => ?_) (fun c_10 => ?_)
        · exact absurd c_10 (by omega)
        · refine lv_aload_n hx hb dX2_train_21 rfl (lv_at hl 1 rfl) ?_
          refine ht_getM hx hb hts hown hK I 9 (by decide) q222 rfl rfl dX2_train_22 ?_
          refine lv_iload_n hx hb dX2_train_25 rfl (lv_at hl 0 rfl) ?_
          refine lv_aload_n hx hb dX2_train_26 rfl (lv_at hl 1 rfl) ?_
          refine lv_iload_n hx hb dX2_train_27 rfl (lv_at hl 0 rfl) ?_
          refine ht_callVi (As := [.int (nI i)]) (rest := [.int (nI i), .ref (ad 7)]) (wr := []) (q0 := 0) (ci := 1) hx hb hml hown hts hK hA I (mt_rest l D dA ad ln cn tn F T SF SB LV NR (ht_put RE 0 (i) (fun i => ht_rest SF SB LV F T tn i)) (ht_put ND 0 (i) (fun _ => nI 0)) (nI i) htn hcn) (cwV 1 hts (lw_V q263 q264 q265 q27 q266) rfl rfl rfl (by decide +kernel) (by decide)) rfl rfl [0, 1, 2, 3, 4, 5, 6, 7, 8] [] rfl rfl (by decide) (by decide) (by decide) rfl hl.1 rfl (Nat.le_of_ble_eq_true rfl) dX2_train_28 (by decide) (fun r u H locs hp I => ?_)
          rw [ht_restq_in (by omega) (by omega)] at hp
          subst hp
          have I : ht_I D A s.heap (ht_M ad dA (nI ln) (nI cn) (nI tn) F T SF SB LV NR (ht_put RE 0 (i) (fun i => ht_rest SF SB LV F T tn i)) (ht_put ND 0 (i) (fun _ => nI 0))) H locs := I
          refine ht_ast (w3 := ht_M ad dA (nI ln) (nI cn) (nI tn) F T SF SB LV NR (upd (ht_put RE 0 (i) (fun i => ht_rest SF SB LV F T tn i)) i (ht_rest SF SB LV F T tn i)) (ht_put ND 0 (i) (fun _ => nI 0))) hx hb hK I 7 rfl (by omega) rfl dX2_train_31 (fun H locs I => ?_)
          refine lv_aload_n hx hb dX2_train_32 rfl (lv_at hl 1 rfl) ?_
          refine ht_getM hx hb hts hown hK I 10 (by decide) q223 rfl rfl dX2_train_33 ?_
          refine lv_iload_n hx hb dX2_train_36 rfl (lv_at hl 0 rfl) ?_
          refine lv_iconst (v := nI 0) hx hb dX2_train_37 (by decide) ?_
          refine ht_ast (w3 := ht_M ad dA (nI ln) (nI cn) (nI tn) F T SF SB LV NR (upd (ht_put RE 0 (i) (fun i => ht_rest SF SB LV F T tn i)) i (ht_rest SF SB LV F T tn i)) (upd (ht_put ND 0 (i) (fun _ => nI 0)) i (nI 0))) hx hb hK I 8 rfl (by omega) rfl dX2_train_38 (fun H locs I => ?_)
          refine lv_iinc (v := (nI (i + 1))) (lv' := [(1, .int (nI (i + 1))), (0, .ref (ad 0))]) hx hb dX2_train_39 hl (k := 0) rfl (nI_add i 1) (by decide) rfl (fun ls hl => ?_)
          refine lv_goto (tgt := 13) hx hb dX2_train_42 (by decide) ?_
          rw [ht_put0_s (g := fun i => ht_rest SF SB LV F T tn i) rfl, ht_put0_s (g := fun _ => nI 0) rfl] at I
          exact ih (i + 1) (by omega) _ _ I ls (lv_sub hl [0, 1] rfl)
    refine lv_iconst (v := nI 0) hx hb dX2_train_11 (by decide) ?_
    refine lv_istore_n (lv' := [(1, .int (nI 0)), (0, .ref (ad 0))]) hx hb dX2_train_12 rfl hl (by decide) rfl (fun ls hl => ?_)
    have I := I.to (w3 := ht_M ad dA (nI ln) (nI cn) (nI tn) F T SF SB LV NR (ht_put RE 0 (0) (fun i => ht_rest SF SB LV F T tn i)) (ht_put ND 0 (0) (fun _ => nI 0))) (by rw [ht_put_0, ht_put_0])
    exact loop1 cn 0 (by omega) _ _ I ls (lv_sub hl [0, 1] rfl)
  · refine lv_bipush (v := (-3)) hx hb dX2_train_8 (by decide) ?_
    exact ht_iret hx hb hr hlk hK I (w2 := fun (u : ht_U) => ht_M ad dA (nI ln) (nI cn) (nI u.1) F T u.2.1 u.2.2.1 u.2.2.2.1 u.2.2.2.2.1 u.2.2.2.2.2.1 u.2.2.2.2.2.2) (tn, SF, SB, LV, NR, RE, ND) (by unfold ht_train; rw [if_neg (by omega)]) rfl dX2_train_10
end
section
/-! CONSTRUCTORS: rows -/
def ht_lz (v : Int32) : Nat := if nI 1 ≤ v then (if v ≤ nI 12 then v.toNatClampNeg else 12) else 1
theorem ht_lz_nat {v : Int32} (h1 : nI 1 ≤ v) (h2 : v ≤ nI 12) : nI v.toNatClampNeg = v ∧ 1 ≤ v.toNatClampNeg ∧ v.toNatClampNeg ≤ 12 := by
  have h0 : ¬ v < 0 := fun q => by
    have a := Int32.lt_iff_toInt_lt.mp q
    have b := Int32.le_iff_toInt_le.mp h1
    rw [nI_toInt (by decide)] at b
    have e : (0 : Int32).toInt = 0 := by decide
    rw [e] at a
    omega
  obtain ⟨j, hj, rfl⟩ := nI_of h0
  rw [nI_clamp hj]
  exact ⟨rfl, (nI_leI (by decide) hj).mp h1, (nI_leI hj (by decide)).mp h2⟩
theorem ht_lz_in (v : Int32) : 0 < ht_lz v ∧ ht_lz v ≤ 12 := by
  unfold ht_lz
  by_cases h1 : nI 1 ≤ v
  · rw [if_pos h1]
    by_cases h2 : v ≤ nI 12
    · rw [if_pos h2]
      have := ht_lz_nat h1 h2
      omega
    · rw [if_neg h2]
      omega
  · rw [if_neg h1]
    omega
abbrev ht_X0 (h0 : Nat) : va_W := [(h0, .inr (0, [.int 0, .int 0, .null, .null, .int 0, .null, .null, .null, .null, .null, .null, .null, .null, .int 0, .int 0, .long 0, .long 0]))]
abbrev ht_M0 (h0 : Nat) : va_W := [(h0, .inr (1, [.int 0, .int 0, .null, .null, .int 0, .null, .null, .null, .null, .null, .null]))]
abbrev ht_z : Nat → Int32 := fun _ => nI 0
section
variable {p : Program} {l : Launch} {e : Env} {R : Room} {s : State} {m : MethodId} {args : Array Value} {below : List Frame} {meth : Method} {c : Code} {H : Heap} {locs : List Loc} {cells slots : Nat} {Q : State → Prop}
variable {cc : ByteArray} {pc : Nat} {ls : Array Slot} {rest : List Value} {D : va_G} {dA : ClassId} {A : Nat → Prop} {w w3 : va_W}
/-- the first array of ints: its type -/
theorem ht_newa1 (hx : p.tables.exec = Jvm.exec) (hb : c.code = cc) (hts : ∀ w ∈ lw_all, w.before args s = true) (hK : va_K D vwCl [] s) (hA : ∀ q : Nat, s.heap.size ≤ q → A q) (I : ht_I D A s.heap w H locs) {N : Nat} {k n : Nat} (hN : N < 2 ^ 16) (hcells : cells + 1 ≤ R.cells) (hslots : slots + N ≤ R.slots) (hk : cells + 1 = k) (hn : slots + N = n) (hdg : decode cc pc = .ok (.newarray .int, 2))
    (kk : ∀ (q : Nat) (dA : ClassId) (H1 : Heap), va_K D vwCl [(dA, .int)] s → ht_I D A s.heap (w ++ [(q, .inl (dA, N, .inl ht_z))]) H1 locs → W p l e R s m args below meth c H1 locs k n Q (F0 m (pc + 2) ls (.ref q :: rest))) : W p l e R s m args below meth c H locs cells slots Q (F0 m pc ls (.int (nI N) :: rest)) := by
  subst hk
  subst hn
  exact va_newa (atype := .int) (ty := .int) (a0 := (N, .inl ht_z)) (N' := N) hx hb (hts _ q88) rfl hK I.1 I.2.1 I.2.2 hA (fun _ => rfl) (nI_pos (by omega)) (nI_clamp (by omega)) (by show N * 4 ≤ _; omega) hcells hslots hdg (fun q cA H1 h1 h2 h3 h4 => kk q cA H1 h1 ⟨h2, h3, h4⟩)
/-- a further one -/
theorem ht_newa (hx : p.tables.exec = Jvm.exec) (hb : c.code = cc) (hts : ∀ w ∈ lw_all, w.before args s = true) (hK : va_K D vwCl [(dA, .int)] s) (hA : ∀ q : Nat, s.heap.size ≤ q → A q) (I : ht_I D A s.heap w H locs) {N : Nat} {k n : Nat} (hN : N < 2 ^ 16) (hcells : cells + 1 ≤ R.cells) (hslots : slots + N ≤ R.slots) (hk : cells + 1 = k) (hn : slots + N = n) (hdg : decode cc pc = .ok (.newarray .int, 2))
    (kk : ∀ (q : Nat) (H1 : Heap), ht_I D A s.heap (w ++ [(q, .inl (dA, N, .inl ht_z))]) H1 locs → W p l e R s m args below meth c H1 locs k n Q (F0 m (pc + 2) ls (.ref q :: rest))) : W p l e R s m args below meth c H locs cells slots Q (F0 m pc ls (.int (nI N) :: rest)) := by
  subst hk
  subst hn
  refine va_newa (atype := .int) (ty := .int) (a0 := (N, .inl ht_z)) (N' := N) hx hb (hts _ q88) rfl hK I.1 I.2.1 I.2.2 hA (fun _ => rfl) (nI_pos (by omega)) (nI_clamp (by omega)) (by show N * 4 ≤ _; omega) hcells hslots hdg (fun q cA H1 h1 h2 h3 h4 => ?_)
  have e1 : s.vm.findClass ("[" ++ FieldType.int.toString) = some dA := (h1.2 0 _ rfl).2
  have e2 : s.vm.findClass ("[" ++ FieldType.int.toString) = some cA := (h1.2 1 _ rfl).2
  have e3 : dA = cA := Option.some.inj (e1.symm.trans e2)
  subst e3
  exact kk q H1 ⟨h2, h3, h4⟩
theorem ht_putFX (hx : p.tables.exec = Jvm.exec) (hb : c.code = cc) (hts : ∀ w ∈ lw_all, w.before args s = true) (hown : s.vm.findClass RX1 = some m.cls) {tys : List (ClassId × FieldType)} (hK : va_K D vwCl tys s) (I : ht_I D A s.heap w H locs) (hin : meth.name = "<init>") (k : Nat) (hk : k < 17) {index a : Nat} {fs : List Value} {v : Value} {ty : FieldType}
    (hlink : Cond.fieldLink RX1 index RX1 (TX1 k).2.1 (TX1 k).2.2.1 ∈ lw_all) (hfin : (TX1 k).2.2.2 = true) (hd : parseFieldDescriptor (TX1 k).2.2.1 = some ty) (hn : narrow ty v = v) (hfit : fits ty v = true) (he : w[0]? = some (a, .inr (0, fs))) (hl : k < fs.length) (hw : w.set 0 (a, .inr (0, fs.set k v)) = w3) (hdg : decode cc pc = .ok (.putfield index, 3))
    (kk : ∀ (H1 : Heap) (locs1 : List Loc), ht_I D A s.heap w3 H1 locs1 → W p l e R s m args below meth c H1 locs1 cells slots Q (F0 m (pc + 3) ls rest)) : W p l e R s m args below meth c H locs cells slots Q (F0 m pc ls (v :: .ref a :: rest)) := by
  subst hw
  exact va_putF (D := D) (ci := 0) (C := RX1) (T := TX1) (N := 17) (ref := RX1) hx hb hts in_X1 tyX1 tyX1_ok nmX1 hown hK I.1 I.2.1 I.2.2 0 he rfl k hk (hts _ hlink) (fun x h => by rw [ht_T1] at h; exact h) hfin hin (ht_T1 k) hd hn hfit hl hdg (fun H1 locs1 h1 h2 h3 => kk H1 locs1 ⟨h1, h2, h3⟩)
theorem ht_putFM (hx : p.tables.exec = Jvm.exec) (hb : c.code = cc) (hts : ∀ w ∈ lw_all, w.before args s = true) (hown : s.vm.findClass RX2 = some m.cls) {tys : List (ClassId × FieldType)} (hK : va_K D vwCl tys s) (I : ht_I D A s.heap w H locs) (hin : meth.name = "<init>") (k : Nat) (hk : k < 11) {index a : Nat} {fs : List Value} {v : Value} {ty : FieldType}
    (hlink : Cond.fieldLink RX2 index RX2 (TX2 k).2.1 (TX2 k).2.2.1 ∈ lw_all) (hfin : (TX2 k).2.2.2 = true) (hd : parseFieldDescriptor (TX2 k).2.2.1 = some ty) (hn : narrow ty v = v) (hfit : fits ty v = true) (he : w[0]? = some (a, .inr (1, fs))) (hl : k < fs.length) (hw : w.set 0 (a, .inr (1, fs.set k v)) = w3) (hdg : decode cc pc = .ok (.putfield index, 3))
    (kk : ∀ (H1 : Heap) (locs1 : List Loc), ht_I D A s.heap w3 H1 locs1 → W p l e R s m args below meth c H1 locs1 cells slots Q (F0 m (pc + 3) ls rest)) : W p l e R s m args below meth c H locs cells slots Q (F0 m pc ls (v :: .ref a :: rest)) := by
  subst hw
  exact va_putF (D := D) (ci := 1) (C := RX2) (T := TX2) (N := 11) (ref := RX2) hx hb hts in_X2 tyX2 tyX2_ok nmX2 hown hK I.1 I.2.1 I.2.2 0 he rfl k hk (hts _ hlink) (fun x h => by rw [ht_T2] at h; exact h) hfin hin (ht_T2 k) hd hn hfit hl hdg (fun H1 locs1 h1 h2 h3 => kk H1 locs1 ⟨h1, h2, h3⟩)
end
end
section
set_option maxHeartbeats 4000000 in
set_option maxRecDepth 100000 in
theorem xt_init (l : Launch) (D : va_G) (h0 : Nat) (v : Int32) (sz : Nat) : Met l yX1_init (ws_ yX1_init cX1_init 3 none) { frames := 1, cells := 10, slots := 544, locals := 12 } (va_Pc [.ref h0, .int v] (fun U => U.heap.size = sz ∧ va_P D vwCl (ht_X0 h0) U.heap ∧ va_K D vwCl [] U ∧ va_D (fun _ => True) (ht_X0 h0))) (va_Qv (fun (_ : Unit) => True) (fun (_ : Unit) (t : State) => ∃ (ad : Nat → Nat) (dA : ClassId), ad 0 = h0 ∧ va_P D vwCl (ht_X ad dA (nI (ht_lz v)) (nI 0) (nI 0) 0 0 0 0 ht_z ht_z ht_z ht_z ht_z ht_z ht_z ht_z ht_z ht_z) t.heap ∧ va_K D vwCl [(dA, .int)] t ∧ va_D (va_A (ht_X0 h0) sz) (ht_X ad dA (nI (ht_lz v)) (nI 0) (nI 0) 0 0 0 0 ht_z ht_z ht_z ht_z ht_z ht_z ht_z ht_z ht_z ht_z)) (va_A (ht_X0 h0) sz)) 10 544 (va_A (ht_X0 h0) sz) := by
  refine Met.ofW (cc := cX1_init) (maxL := 3) (ret := none) (by decide) rfl ?_
  intro p e s m args below meth c s₁ B hml hv
  obtain ⟨rfl, hsz, hP, hK, hD0⟩ := hv
  have hx := B.exec
  have hb := B.bytes
  have hr := B.returns
  have hts0 := atoms_spec (ws := ws_ yX1_init cX1_init 3 none) B.pre
  have hts : ∀ w ∈ lw_all, w.before _ s = true := fun w h => hts0 w (List.mem_cons_of_mem _ h)
  have hown : s.vm.findClass RX1 = some m.cls := findClass_of_methodNamed B.named
  have hlk := B.notSynchronized
  have hin : meth.name = "<init>" := (name_of_methodNamed B.named B.method).1
  subst hsz
  have hA : ∀ q : Nat, s.heap.size ≤ q → va_A (ht_X0 h0) s.heap.size q := fun q h => Or.inr h
  have I : ht_I D (va_A (ht_X0 h0) s.heap.size) s.heap (ht_X0 h0) s.heap [] := ⟨hP, hD0.self, va_S.rf⟩
  generalize va_A (ht_X0 h0) s.heap.size = A at hA I ⊢
  have hl := lv_entry ([.ref h0, .int v]) (n := 3) (Nat.le_of_ble_eq_true rfl)
  rw [lg_entry_eq]
  generalize (lg_sl ([.ref h0, .int v]) ++ List.replicate (3 - (lg_sl ([.ref h0, .int v])).length) Slot.unset).toArray = ls at hl ⊢
  have hl : lv_has ls 3 [(0, .ref h0), (1, .int v)] := hl
  refine lv_aload_n hx hb dX1_init_0 rfl (lv_at hl 0 rfl) ?_
  refine W.objInit hx hb hown (hts _ q33) (hts _ q34) (hts _ q35) rfl (by rw [hml]; exact hl.1) rfl dX1_init_1 (Nat.le_of_ble_eq_true rfl) (Nat.le_of_ble_eq_true rfl) ?_
  refine W.eq (g2 := F0 m 4 ls []) rfl ?_
  refine lv_aload_n hx hb dX1_init_4 rfl (lv_at hl 0 rfl) ?_
  refine lv_bipush (v := nI 24) hx hb dX1_init_5 (by decide) ?_
  refine ht_newa1 (k := 1) (n := 24) hx hb hts hK hA I (by decide) (by decide) (by decide) rfl rfl dX1_init_7 (fun a1 dA H hK I => ?_)
  have I : ht_I D A s.heap ([(h0, .inr (0, [.int 0, .int 0, .null, .null, .int 0, .null, .null, .null, .null, .null, .null, .null, .null, .int 0, .int 0, .long 0, .long 0])), (a1, .inl (dA, 24, .inl ht_z))]) H _ := I
  refine ht_putFX (ty := .array .int) (w3 := [(h0, .inr (0, [.int 0, .int 0, .ref a1, .null, .int 0, .null, .null, .null, .null, .null, .null, .null, .null, .int 0, .int 0, .long 0, .long 0])), (a1, .inl (dA, 24, .inl ht_z))]) hx hb hts hown hK I hin 2 (by decide) q38 rfl (by decide +kernel) rfl rfl rfl (Nat.le_of_ble_eq_true rfl) rfl dX1_init_9 (fun H locs I => ?_)
  refine lv_aload_n hx hb dX1_init_12 rfl (lv_at hl 0 rfl) ?_
  refine lv_bipush (v := nI 24) hx hb dX1_init_13 (by decide) ?_
  refine ht_newa (k := 2) (n := 48) hx hb hts hK hA I (by decide) (by decide) (by decide) rfl rfl dX1_init_15 (fun a2 H I => ?_)
  have I : ht_I D A s.heap ([(h0, .inr (0, [.int 0, .int 0, .ref a1, .null, .int 0, .null, .null, .null, .null, .null, .null, .null, .null, .int 0, .int 0, .long 0, .long 0])), (a1, .inl (dA, 24, .inl ht_z)), (a2, .inl (dA, 24, .inl ht_z))]) H _ := I
  refine ht_putFX (ty := .array .int) (w3 := [(h0, .inr (0, [.int 0, .int 0, .ref a1, .ref a2, .int 0, .null, .null, .null, .null, .null, .null, .null, .null, .int 0, .int 0, .long 0, .long 0])), (a1, .inl (dA, 24, .inl ht_z)), (a2, .inl (dA, 24, .inl ht_z))]) hx hb hts hown hK I hin 3 (by decide) q39 rfl (by decide +kernel) rfl rfl rfl (Nat.le_of_ble_eq_true rfl) rfl dX1_init_17 (fun H locs I => ?_)
  refine lv_aload_n hx hb dX1_init_20 rfl (lv_at hl 0 rfl) ?_
  refine lv_bipush (v := nI 28) hx hb dX1_init_21 (by decide) ?_
  refine ht_newa (k := 3) (n := 76) hx hb hts hK hA I (by decide) (by decide) (by decide) rfl rfl dX1_init_23 (fun a3 H I => ?_)
  have I : ht_I D A s.heap ([(h0, .inr (0, [.int 0, .int 0, .ref a1, .ref a2, .int 0, .null, .null, .null, .null, .null, .null, .null, .null, .int 0, .int 0, .long 0, .long 0])), (a1, .inl (dA, 24, .inl ht_z)), (a2, .inl (dA, 24, .inl ht_z)), (a3, .inl (dA, 28, .inl ht_z))]) H _ := I
  refine ht_putFX (ty := .array .int) (w3 := [(h0, .inr (0, [.int 0, .int 0, .ref a1, .ref a2, .int 0, .ref a3, .null, .null, .null, .null, .null, .null, .null, .int 0, .int 0, .long 0, .long 0])), (a1, .inl (dA, 24, .inl ht_z)), (a2, .inl (dA, 24, .inl ht_z)), (a3, .inl (dA, 28, .inl ht_z))]) hx hb hts hown hK I hin 5 (by decide) q41 rfl (by decide +kernel) rfl rfl rfl (Nat.le_of_ble_eq_true rfl) rfl dX1_init_25 (fun H locs I => ?_)
  refine lv_aload_n hx hb dX1_init_28 rfl (lv_at hl 0 rfl) ?_
  refine lv_bipush (v := nI 28) hx hb dX1_init_29 (by decide) ?_
  refine ht_newa (k := 4) (n := 104) hx hb hts hK hA I (by decide) (by decide) (by decide) rfl rfl dX1_init_31 (fun a4 H I => ?_)
  have I : ht_I D A s.heap ([(h0, .inr (0, [.int 0, .int 0, .ref a1, .ref a2, .int 0, .ref a3, .null, .null, .null, .null, .null, .null, .null, .int 0, .int 0, .long 0, .long 0])), (a1, .inl (dA, 24, .inl ht_z)), (a2, .inl (dA, 24, .inl ht_z)), (a3, .inl (dA, 28, .inl ht_z)), (a4, .inl (dA, 28, .inl ht_z))]) H _ := I
  refine ht_putFX (ty := .array .int) (w3 := [(h0, .inr (0, [.int 0, .int 0, .ref a1, .ref a2, .int 0, .ref a3, .ref a4, .null, .null, .null, .null, .null, .null, .int 0, .int 0, .long 0, .long 0])), (a1, .inl (dA, 24, .inl ht_z)), (a2, .inl (dA, 24, .inl ht_z)), (a3, .inl (dA, 28, .inl ht_z)), (a4, .inl (dA, 28, .inl ht_z))]) hx hb hts hown hK I hin 6 (by decide) q42 rfl (by decide +kernel) rfl rfl rfl (Nat.le_of_ble_eq_true rfl) rfl dX1_init_33 (fun H locs I => ?_)
  refine lv_aload_n hx hb dX1_init_36 rfl (lv_at hl 0 rfl) ?_
  refine lv_bipush (v := nI 28) hx hb dX1_init_37 (by decide) ?_
  refine ht_newa (k := 5) (n := 132) hx hb hts hK hA I (by decide) (by decide) (by decide) rfl rfl dX1_init_39 (fun a5 H I => ?_)
  have I : ht_I D A s.heap ([(h0, .inr (0, [.int 0, .int 0, .ref a1, .ref a2, .int 0, .ref a3, .ref a4, .null, .null, .null, .null, .null, .null, .int 0, .int 0, .long 0, .long 0])), (a1, .inl (dA, 24, .inl ht_z)), (a2, .inl (dA, 24, .inl ht_z)), (a3, .inl (dA, 28, .inl ht_z)), (a4, .inl (dA, 28, .inl ht_z)), (a5, .inl (dA, 28, .inl ht_z))]) H _ := I
  refine ht_putFX (ty := .array .int) (w3 := [(h0, .inr (0, [.int 0, .int 0, .ref a1, .ref a2, .int 0, .ref a3, .ref a4, .ref a5, .null, .null, .null, .null, .null, .int 0, .int 0, .long 0, .long 0])), (a1, .inl (dA, 24, .inl ht_z)), (a2, .inl (dA, 24, .inl ht_z)), (a3, .inl (dA, 28, .inl ht_z)), (a4, .inl (dA, 28, .inl ht_z)), (a5, .inl (dA, 28, .inl ht_z))]) hx hb hts hown hK I hin 7 (by decide) q43 rfl (by decide +kernel) rfl rfl rfl (Nat.le_of_ble_eq_true rfl) rfl dX1_init_41 (fun H locs I => ?_)
  refine lv_aload_n hx hb dX1_init_44 rfl (lv_at hl 0 rfl) ?_
  refine lv_bipush (v := nI 28) hx hb dX1_init_45 (by decide) ?_
  refine ht_newa (k := 6) (n := 160) hx hb hts hK hA I (by decide) (by decide) (by decide) rfl rfl dX1_init_47 (fun a6 H I => ?_)
  have I : ht_I D A s.heap ([(h0, .inr (0, [.int 0, .int 0, .ref a1, .ref a2, .int 0, .ref a3, .ref a4, .ref a5, .null, .null, .null, .null, .null, .int 0, .int 0, .long 0, .long 0])), (a1, .inl (dA, 24, .inl ht_z)), (a2, .inl (dA, 24, .inl ht_z)), (a3, .inl (dA, 28, .inl ht_z)), (a4, .inl (dA, 28, .inl ht_z)), (a5, .inl (dA, 28, .inl ht_z)), (a6, .inl (dA, 28, .inl ht_z))]) H _ := I
  refine ht_putFX (ty := .array .int) (w3 := [(h0, .inr (0, [.int 0, .int 0, .ref a1, .ref a2, .int 0, .ref a3, .ref a4, .ref a5, .ref a6, .null, .null, .null, .null, .int 0, .int 0, .long 0, .long 0])), (a1, .inl (dA, 24, .inl ht_z)), (a2, .inl (dA, 24, .inl ht_z)), (a3, .inl (dA, 28, .inl ht_z)), (a4, .inl (dA, 28, .inl ht_z)), (a5, .inl (dA, 28, .inl ht_z)), (a6, .inl (dA, 28, .inl ht_z))]) hx hb hts hown hK I hin 8 (by decide) q44 rfl (by decide +kernel) rfl rfl rfl (Nat.le_of_ble_eq_true rfl) rfl dX1_init_49 (fun H locs I => ?_)
  refine lv_aload_n hx hb dX1_init_52 rfl (lv_at hl 0 rfl) ?_
  refine lv_bipush (v := nI 24) hx hb dX1_init_53 (by decide) ?_
  refine ht_newa (k := 7) (n := 184) hx hb hts hK hA I (by decide) (by decide) (by decide) rfl rfl dX1_init_55 (fun a7 H I => ?_)
  have I : ht_I D A s.heap ([(h0, .inr (0, [.int 0, .int 0, .ref a1, .ref a2, .int 0, .ref a3, .ref a4, .ref a5, .ref a6, .null, .null, .null, .null, .int 0, .int 0, .long 0, .long 0])), (a1, .inl (dA, 24, .inl ht_z)), (a2, .inl (dA, 24, .inl ht_z)), (a3, .inl (dA, 28, .inl ht_z)), (a4, .inl (dA, 28, .inl ht_z)), (a5, .inl (dA, 28, .inl ht_z)), (a6, .inl (dA, 28, .inl ht_z)), (a7, .inl (dA, 24, .inl ht_z))]) H _ := I
  refine ht_putFX (ty := .array .int) (w3 := [(h0, .inr (0, [.int 0, .int 0, .ref a1, .ref a2, .int 0, .ref a3, .ref a4, .ref a5, .ref a6, .ref a7, .null, .null, .null, .int 0, .int 0, .long 0, .long 0])), (a1, .inl (dA, 24, .inl ht_z)), (a2, .inl (dA, 24, .inl ht_z)), (a3, .inl (dA, 28, .inl ht_z)), (a4, .inl (dA, 28, .inl ht_z)), (a5, .inl (dA, 28, .inl ht_z)), (a6, .inl (dA, 28, .inl ht_z)), (a7, .inl (dA, 24, .inl ht_z))]) hx hb hts hown hK I hin 9 (by decide) q45 rfl (by decide +kernel) rfl rfl rfl (Nat.le_of_ble_eq_true rfl) rfl dX1_init_57 (fun H locs I => ?_)
  refine lv_aload_n hx hb dX1_init_60 rfl (lv_at hl 0 rfl) ?_
  refine lv_bipush (v := nI 24) hx hb dX1_init_61 (by decide) ?_
  refine ht_newa (k := 8) (n := 208) hx hb hts hK hA I (by decide) (by decide) (by decide) rfl rfl dX1_init_63 (fun a8 H I => ?_)
  have I : ht_I D A s.heap ([(h0, .inr (0, [.int 0, .int 0, .ref a1, .ref a2, .int 0, .ref a3, .ref a4, .ref a5, .ref a6, .ref a7, .null, .null, .null, .int 0, .int 0, .long 0, .long 0])), (a1, .inl (dA, 24, .inl ht_z)), (a2, .inl (dA, 24, .inl ht_z)), (a3, .inl (dA, 28, .inl ht_z)), (a4, .inl (dA, 28, .inl ht_z)), (a5, .inl (dA, 28, .inl ht_z)), (a6, .inl (dA, 28, .inl ht_z)), (a7, .inl (dA, 24, .inl ht_z)), (a8, .inl (dA, 24, .inl ht_z))]) H _ := I
  refine ht_putFX (ty := .array .int) (w3 := [(h0, .inr (0, [.int 0, .int 0, .ref a1, .ref a2, .int 0, .ref a3, .ref a4, .ref a5, .ref a6, .ref a7, .ref a8, .null, .null, .int 0, .int 0, .long 0, .long 0])), (a1, .inl (dA, 24, .inl ht_z)), (a2, .inl (dA, 24, .inl ht_z)), (a3, .inl (dA, 28, .inl ht_z)), (a4, .inl (dA, 28, .inl ht_z)), (a5, .inl (dA, 28, .inl ht_z)), (a6, .inl (dA, 28, .inl ht_z)), (a7, .inl (dA, 24, .inl ht_z)), (a8, .inl (dA, 24, .inl ht_z))]) hx hb hts hown hK I hin 10 (by decide) q46 rfl (by decide +kernel) rfl rfl rfl (Nat.le_of_ble_eq_true rfl) rfl dX1_init_65 (fun H locs I => ?_)
  refine lv_aload_n hx hb dX1_init_68 rfl (lv_at hl 0 rfl) ?_
  refine lv_sipush (v := nI 168) hx hb dX1_init_69 (by decide) ?_
  refine ht_newa (k := 9) (n := 376) hx hb hts hK hA I (by decide) (by decide) (by decide) rfl rfl dX1_init_72 (fun a9 H I => ?_)
  have I : ht_I D A s.heap ([(h0, .inr (0, [.int 0, .int 0, .ref a1, .ref a2, .int 0, .ref a3, .ref a4, .ref a5, .ref a6, .ref a7, .ref a8, .null, .null, .int 0, .int 0, .long 0, .long 0])), (a1, .inl (dA, 24, .inl ht_z)), (a2, .inl (dA, 24, .inl ht_z)), (a3, .inl (dA, 28, .inl ht_z)), (a4, .inl (dA, 28, .inl ht_z)), (a5, .inl (dA, 28, .inl ht_z)), (a6, .inl (dA, 28, .inl ht_z)), (a7, .inl (dA, 24, .inl ht_z)), (a8, .inl (dA, 24, .inl ht_z)), (a9, .inl (dA, 168, .inl ht_z))]) H _ := I
  refine ht_putFX (ty := .array .int) (w3 := [(h0, .inr (0, [.int 0, .int 0, .ref a1, .ref a2, .int 0, .ref a3, .ref a4, .ref a5, .ref a6, .ref a7, .ref a8, .ref a9, .null, .int 0, .int 0, .long 0, .long 0])), (a1, .inl (dA, 24, .inl ht_z)), (a2, .inl (dA, 24, .inl ht_z)), (a3, .inl (dA, 28, .inl ht_z)), (a4, .inl (dA, 28, .inl ht_z)), (a5, .inl (dA, 28, .inl ht_z)), (a6, .inl (dA, 28, .inl ht_z)), (a7, .inl (dA, 24, .inl ht_z)), (a8, .inl (dA, 24, .inl ht_z)), (a9, .inl (dA, 168, .inl ht_z))]) hx hb hts hown hK I hin 11 (by decide) q47 rfl (by decide +kernel) rfl rfl rfl (Nat.le_of_ble_eq_true rfl) rfl dX1_init_74 (fun H locs I => ?_)
  refine lv_aload_n hx hb dX1_init_77 rfl (lv_at hl 0 rfl) ?_
  refine lv_sipush (v := nI 168) hx hb dX1_init_78 (by decide) ?_
  refine ht_newa (k := 10) (n := 544) hx hb hts hK hA I (by decide) (by decide) (by decide) rfl rfl dX1_init_81 (fun a10 H I => ?_)
  have I : ht_I D A s.heap ([(h0, .inr (0, [.int 0, .int 0, .ref a1, .ref a2, .int 0, .ref a3, .ref a4, .ref a5, .ref a6, .ref a7, .ref a8, .ref a9, .null, .int 0, .int 0, .long 0, .long 0])), (a1, .inl (dA, 24, .inl ht_z)), (a2, .inl (dA, 24, .inl ht_z)), (a3, .inl (dA, 28, .inl ht_z)), (a4, .inl (dA, 28, .inl ht_z)), (a5, .inl (dA, 28, .inl ht_z)), (a6, .inl (dA, 28, .inl ht_z)), (a7, .inl (dA, 24, .inl ht_z)), (a8, .inl (dA, 24, .inl ht_z)), (a9, .inl (dA, 168, .inl ht_z)), (a10, .inl (dA, 168, .inl ht_z))]) H _ := I
  refine ht_putFX (ty := .array .int) (w3 := [(h0, .inr (0, [.int 0, .int 0, .ref a1, .ref a2, .int 0, .ref a3, .ref a4, .ref a5, .ref a6, .ref a7, .ref a8, .ref a9, .ref a10, .int 0, .int 0, .long 0, .long 0])), (a1, .inl (dA, 24, .inl ht_z)), (a2, .inl (dA, 24, .inl ht_z)), (a3, .inl (dA, 28, .inl ht_z)), (a4, .inl (dA, 28, .inl ht_z)), (a5, .inl (dA, 28, .inl ht_z)), (a6, .inl (dA, 28, .inl ht_z)), (a7, .inl (dA, 24, .inl ht_z)), (a8, .inl (dA, 24, .inl ht_z)), (a9, .inl (dA, 168, .inl ht_z)), (a10, .inl (dA, 168, .inl ht_z))]) hx hb hts hown hK I hin 12 (by decide) q48 rfl (by decide +kernel) rfl rfl rfl (Nat.le_of_ble_eq_true rfl) rfl dX1_init_83 (fun H locs I => ?_)
  refine lv_iload_n hx hb dX1_init_86 rfl (lv_at hl 1 rfl) ?_
  refine lv_istore_n (lv' := [(2, .int v), (0, .ref h0), (1, .int v)]) hx hb dX1_init_87 rfl hl (by decide) rfl (fun ls hl => ?_)
  refine lv_iload_n hx hb dX1_init_88 rfl (lv_at hl 0 rfl) ?_
  refine lv_iconst (v := nI 1) hx hb dX1_init_89 (by decide) ?_
  refine lv_icmp_ge (tgt := 95) hx hb dX1_init_90 (by decide) (fun c_1 => ?_) (fun c_1 => ?_)
  · refine lv_iload_n hx hb dX1_init_95 rfl (lv_at hl 0 rfl) ?_
    refine lv_bipush (v := nI 12) hx hb dX1_init_96 (by decide) ?_
    refine lv_icmp_le (tgt := 104) hx hb dX1_init_98 (by decide) (fun c_2 => ?_) (fun c_2 => ?_)
    · refine lv_aload_n hx hb dX1_init_104 rfl (lv_at hl 1 rfl) ?_
      refine lv_iload_n hx hb dX1_init_105 rfl (lv_at hl 0 rfl) ?_
      refine ht_putFX (ty := .int) (w3 := [(h0, .inr (0, [.int (v), .int 0, .ref a1, .ref a2, .int 0, .ref a3, .ref a4, .ref a5, .ref a6, .ref a7, .ref a8, .ref a9, .ref a10, .int 0, .int 0, .long 0, .long 0])), (a1, .inl (dA, 24, .inl ht_z)), (a2, .inl (dA, 24, .inl ht_z)), (a3, .inl (dA, 28, .inl ht_z)), (a4, .inl (dA, 28, .inl ht_z)), (a5, .inl (dA, 28, .inl ht_z)), (a6, .inl (dA, 28, .inl ht_z)), (a7, .inl (dA, 24, .inl ht_z)), (a8, .inl (dA, 24, .inl ht_z)), (a9, .inl (dA, 168, .inl ht_z)), (a10, .inl (dA, 168, .inl ht_z))]) hx hb hts hown hK I hin 0 (by decide) q36 rfl (by decide +kernel) rfl rfl rfl (Nat.le_of_ble_eq_true rfl) rfl dX1_init_106 (fun H locs I => ?_)
      have ez : v = nI (ht_lz v) := by unfold ht_lz; rw [if_pos c_1, if_pos c_2, (ht_lz_nat c_1 c_2).1]
      rw [ez] at I
      exact W.vret hx hb hr (fun t ht hW => ⟨⟨(), rfl, trivial, (fun k => [h0, a1, a2, a3, a4, a5, a6, a7, a8, a9, a10].getD k 0), dA, rfl, by rw [ht]; exact I.1, va_K.moved hW.alike hK, I.2.1⟩, I.2.2.F ht⟩) I.2.2.2.2 dX1_init_109 hlk
    · refine lv_bipush (v := nI 12) hx hb dX1_init_101 (by decide) ?_
      refine lv_istore_n (lv' := [(2, .int (nI 12)), (0, .ref h0), (1, .int v)]) hx hb dX1_init_103 rfl hl (by decide) rfl (fun ls hl => ?_)
      refine lv_aload_n hx hb dX1_init_104 rfl (lv_at hl 1 rfl) ?_
      refine lv_iload_n hx hb dX1_init_105 rfl (lv_at hl 0 rfl) ?_
      refine ht_putFX (ty := .int) (w3 := [(h0, .inr (0, [.int (nI 12), .int 0, .ref a1, .ref a2, .int 0, .ref a3, .ref a4, .ref a5, .ref a6, .ref a7, .ref a8, .ref a9, .ref a10, .int 0, .int 0, .long 0, .long 0])), (a1, .inl (dA, 24, .inl ht_z)), (a2, .inl (dA, 24, .inl ht_z)), (a3, .inl (dA, 28, .inl ht_z)), (a4, .inl (dA, 28, .inl ht_z)), (a5, .inl (dA, 28, .inl ht_z)), (a6, .inl (dA, 28, .inl ht_z)), (a7, .inl (dA, 24, .inl ht_z)), (a8, .inl (dA, 24, .inl ht_z)), (a9, .inl (dA, 168, .inl ht_z)), (a10, .inl (dA, 168, .inl ht_z))]) hx hb hts hown hK I hin 0 (by decide) q36 rfl (by decide +kernel) rfl rfl rfl (Nat.le_of_ble_eq_true rfl) rfl dX1_init_106 (fun H locs I => ?_)
      have ez : nI 12 = nI (ht_lz v) := by unfold ht_lz; rw [if_pos c_1, if_neg c_2]
      rw [ez] at I
      exact W.vret hx hb hr (fun t ht hW => ⟨⟨(), rfl, trivial, (fun k => [h0, a1, a2, a3, a4, a5, a6, a7, a8, a9, a10].getD k 0), dA, rfl, by rw [ht]; exact I.1, va_K.moved hW.alike hK, I.2.1⟩, I.2.2.F ht⟩) I.2.2.2.2 dX1_init_109 hlk
  · refine lv_iconst (v := nI 1) hx hb dX1_init_93 (by decide) ?_
    refine lv_istore_n (lv' := [(2, .int (nI 1)), (0, .ref h0), (1, .int v)]) hx hb dX1_init_94 rfl hl (by decide) rfl (fun ls hl => ?_)
    refine lv_iload_n hx hb dX1_init_95 rfl (lv_at hl 0 rfl) ?_
    refine lv_bipush (v := nI 12) hx hb dX1_init_96 (by decide) ?_
    refine lv_icmp_le (tgt := 104) hx hb dX1_init_98 (by decide) (fun c_2 => ?_) (fun c_2 => ?_)
    · refine lv_aload_n hx hb dX1_init_104 rfl (lv_at hl 1 rfl) ?_
      refine lv_iload_n hx hb dX1_init_105 rfl (lv_at hl 0 rfl) ?_
      refine ht_putFX (ty := .int) (w3 := [(h0, .inr (0, [.int (nI 1), .int 0, .ref a1, .ref a2, .int 0, .ref a3, .ref a4, .ref a5, .ref a6, .ref a7, .ref a8, .ref a9, .ref a10, .int 0, .int 0, .long 0, .long 0])), (a1, .inl (dA, 24, .inl ht_z)), (a2, .inl (dA, 24, .inl ht_z)), (a3, .inl (dA, 28, .inl ht_z)), (a4, .inl (dA, 28, .inl ht_z)), (a5, .inl (dA, 28, .inl ht_z)), (a6, .inl (dA, 28, .inl ht_z)), (a7, .inl (dA, 24, .inl ht_z)), (a8, .inl (dA, 24, .inl ht_z)), (a9, .inl (dA, 168, .inl ht_z)), (a10, .inl (dA, 168, .inl ht_z))]) hx hb hts hown hK I hin 0 (by decide) q36 rfl (by decide +kernel) rfl rfl rfl (Nat.le_of_ble_eq_true rfl) rfl dX1_init_106 (fun H locs I => ?_)
      have ez : nI 1 = nI (ht_lz v) := by unfold ht_lz; rw [if_neg c_1]
      rw [ez] at I
      exact W.vret hx hb hr (fun t ht hW => ⟨⟨(), rfl, trivial, (fun k => [h0, a1, a2, a3, a4, a5, a6, a7, a8, a9, a10].getD k 0), dA, rfl, by rw [ht]; exact I.1, va_K.moved hW.alike hK, I.2.1⟩, I.2.2.F ht⟩) I.2.2.2.2 dX1_init_109 hlk
    · exact absurd (show nI 1 ≤ nI 12 by decide) c_2
set_option maxHeartbeats 4000000 in
set_option maxRecDepth 100000 in
theorem mt_init (l : Launch) (D : va_G) (h0 : Nat) (v : Int32) (sz : Nat) : Met l yX2_init (ws_ yX2_init cX2_init 3 none) { frames := 1, cells := 8, slots := 208, locals := 12 } (va_Pc [.ref h0, .int v] (fun U => U.heap.size = sz ∧ va_P D vwCl (ht_M0 h0) U.heap ∧ va_K D vwCl [] U ∧ va_D (fun _ => True) (ht_M0 h0))) (va_Qv (fun (_ : Unit) => True) (fun (_ : Unit) (t : State) => ∃ (ad : Nat → Nat) (dA : ClassId), ad 0 = h0 ∧ va_P D vwCl (ht_M ad dA (nI (ht_lz v)) (nI 0) (nI 0) ht_z ht_z ht_z ht_z ht_z ht_z ht_z ht_z) t.heap ∧ va_K D vwCl [(dA, .int)] t ∧ va_D (va_A (ht_M0 h0) sz) (ht_M ad dA (nI (ht_lz v)) (nI 0) (nI 0) ht_z ht_z ht_z ht_z ht_z ht_z ht_z ht_z)) (va_A (ht_M0 h0) sz)) 8 208 (va_A (ht_M0 h0) sz) := by
  refine Met.ofW (cc := cX2_init) (maxL := 3) (ret := none) (by decide) rfl ?_
  intro p e s m args below meth c s₁ B hml hv
  obtain ⟨rfl, hsz, hP, hK, hD0⟩ := hv
  have hx := B.exec
  have hb := B.bytes
  have hr := B.returns
  have hts0 := atoms_spec (ws := ws_ yX2_init cX2_init 3 none) B.pre
  have hts : ∀ w ∈ lw_all, w.before _ s = true := fun w h => hts0 w (List.mem_cons_of_mem _ h)
  have hown : s.vm.findClass RX2 = some m.cls := findClass_of_methodNamed B.named
  have hlk := B.notSynchronized
  have hin : meth.name = "<init>" := (name_of_methodNamed B.named B.method).1
  subst hsz
  have hA : ∀ q : Nat, s.heap.size ≤ q → va_A (ht_M0 h0) s.heap.size q := fun q h => Or.inr h
  have I : ht_I D (va_A (ht_M0 h0) s.heap.size) s.heap (ht_M0 h0) s.heap [] := ⟨hP, hD0.self, va_S.rf⟩
  generalize va_A (ht_M0 h0) s.heap.size = A at hA I ⊢
  have hl := lv_entry ([.ref h0, .int v]) (n := 3) (Nat.le_of_ble_eq_true rfl)
  rw [lg_entry_eq]
  generalize (lg_sl ([.ref h0, .int v]) ++ List.replicate (3 - (lg_sl ([.ref h0, .int v])).length) Slot.unset).toArray = ls at hl ⊢
  have hl : lv_has ls 3 [(0, .ref h0), (1, .int v)] := hl
  refine lv_aload_n hx hb dX2_init_0 rfl (lv_at hl 0 rfl) ?_
  refine W.objInit hx hb hown (hts _ q212) (hts _ q34) (hts _ q35) rfl (by rw [hml]; exact hl.1) rfl dX2_init_1 (Nat.le_of_ble_eq_true rfl) (Nat.le_of_ble_eq_true rfl) ?_
  refine W.eq (g2 := F0 m 4 ls []) rfl ?_
  refine lv_aload_n hx hb dX2_init_4 rfl (lv_at hl 0 rfl) ?_
  refine lv_bipush (v := nI 24) hx hb dX2_init_5 (by decide) ?_
  refine ht_newa1 (k := 1) (n := 24) hx hb hts hK hA I (by decide) (by decide) (by decide) rfl rfl dX2_init_7 (fun a1 dA H hK I => ?_)
  have I : ht_I D A s.heap ([(h0, .inr (1, [.int 0, .int 0, .null, .null, .int 0, .null, .null, .null, .null, .null, .null])), (a1, .inl (dA, 24, .inl ht_z))]) H _ := I
  refine ht_putFM (ty := .array .int) (w3 := [(h0, .inr (1, [.int 0, .int 0, .ref a1, .null, .int 0, .null, .null, .null, .null, .null, .null])), (a1, .inl (dA, 24, .inl ht_z))]) hx hb hts hown hK I hin 2 (by decide) q215 rfl (by decide +kernel) rfl rfl rfl (Nat.le_of_ble_eq_true rfl) rfl dX2_init_9 (fun H locs I => ?_)
  refine lv_aload_n hx hb dX2_init_12 rfl (lv_at hl 0 rfl) ?_
  refine lv_bipush (v := nI 24) hx hb dX2_init_13 (by decide) ?_
  refine ht_newa (k := 2) (n := 48) hx hb hts hK hA I (by decide) (by decide) (by decide) rfl rfl dX2_init_15 (fun a2 H I => ?_)
  have I : ht_I D A s.heap ([(h0, .inr (1, [.int 0, .int 0, .ref a1, .null, .int 0, .null, .null, .null, .null, .null, .null])), (a1, .inl (dA, 24, .inl ht_z)), (a2, .inl (dA, 24, .inl ht_z))]) H _ := I
  refine ht_putFM (ty := .array .int) (w3 := [(h0, .inr (1, [.int 0, .int 0, .ref a1, .ref a2, .int 0, .null, .null, .null, .null, .null, .null])), (a1, .inl (dA, 24, .inl ht_z)), (a2, .inl (dA, 24, .inl ht_z))]) hx hb hts hown hK I hin 3 (by decide) q216 rfl (by decide +kernel) rfl rfl rfl (Nat.le_of_ble_eq_true rfl) rfl dX2_init_17 (fun H locs I => ?_)
  refine lv_aload_n hx hb dX2_init_20 rfl (lv_at hl 0 rfl) ?_
  refine lv_bipush (v := nI 28) hx hb dX2_init_21 (by decide) ?_
  refine ht_newa (k := 3) (n := 76) hx hb hts hK hA I (by decide) (by decide) (by decide) rfl rfl dX2_init_23 (fun a3 H I => ?_)
  have I : ht_I D A s.heap ([(h0, .inr (1, [.int 0, .int 0, .ref a1, .ref a2, .int 0, .null, .null, .null, .null, .null, .null])), (a1, .inl (dA, 24, .inl ht_z)), (a2, .inl (dA, 24, .inl ht_z)), (a3, .inl (dA, 28, .inl ht_z))]) H _ := I
  refine ht_putFM (ty := .array .int) (w3 := [(h0, .inr (1, [.int 0, .int 0, .ref a1, .ref a2, .int 0, .ref a3, .null, .null, .null, .null, .null])), (a1, .inl (dA, 24, .inl ht_z)), (a2, .inl (dA, 24, .inl ht_z)), (a3, .inl (dA, 28, .inl ht_z))]) hx hb hts hown hK I hin 5 (by decide) q218 rfl (by decide +kernel) rfl rfl rfl (Nat.le_of_ble_eq_true rfl) rfl dX2_init_25 (fun H locs I => ?_)
  refine lv_aload_n hx hb dX2_init_28 rfl (lv_at hl 0 rfl) ?_
  refine lv_bipush (v := nI 28) hx hb dX2_init_29 (by decide) ?_
  refine ht_newa (k := 4) (n := 104) hx hb hts hK hA I (by decide) (by decide) (by decide) rfl rfl dX2_init_31 (fun a4 H I => ?_)
  have I : ht_I D A s.heap ([(h0, .inr (1, [.int 0, .int 0, .ref a1, .ref a2, .int 0, .ref a3, .null, .null, .null, .null, .null])), (a1, .inl (dA, 24, .inl ht_z)), (a2, .inl (dA, 24, .inl ht_z)), (a3, .inl (dA, 28, .inl ht_z)), (a4, .inl (dA, 28, .inl ht_z))]) H _ := I
  refine ht_putFM (ty := .array .int) (w3 := [(h0, .inr (1, [.int 0, .int 0, .ref a1, .ref a2, .int 0, .ref a3, .ref a4, .null, .null, .null, .null])), (a1, .inl (dA, 24, .inl ht_z)), (a2, .inl (dA, 24, .inl ht_z)), (a3, .inl (dA, 28, .inl ht_z)), (a4, .inl (dA, 28, .inl ht_z))]) hx hb hts hown hK I hin 6 (by decide) q219 rfl (by decide +kernel) rfl rfl rfl (Nat.le_of_ble_eq_true rfl) rfl dX2_init_33 (fun H locs I => ?_)
  refine lv_aload_n hx hb dX2_init_36 rfl (lv_at hl 0 rfl) ?_
  refine lv_bipush (v := nI 28) hx hb dX2_init_37 (by decide) ?_
  refine ht_newa (k := 5) (n := 132) hx hb hts hK hA I (by decide) (by decide) (by decide) rfl rfl dX2_init_39 (fun a5 H I => ?_)
  have I : ht_I D A s.heap ([(h0, .inr (1, [.int 0, .int 0, .ref a1, .ref a2, .int 0, .ref a3, .ref a4, .null, .null, .null, .null])), (a1, .inl (dA, 24, .inl ht_z)), (a2, .inl (dA, 24, .inl ht_z)), (a3, .inl (dA, 28, .inl ht_z)), (a4, .inl (dA, 28, .inl ht_z)), (a5, .inl (dA, 28, .inl ht_z))]) H _ := I
  refine ht_putFM (ty := .array .int) (w3 := [(h0, .inr (1, [.int 0, .int 0, .ref a1, .ref a2, .int 0, .ref a3, .ref a4, .ref a5, .null, .null, .null])), (a1, .inl (dA, 24, .inl ht_z)), (a2, .inl (dA, 24, .inl ht_z)), (a3, .inl (dA, 28, .inl ht_z)), (a4, .inl (dA, 28, .inl ht_z)), (a5, .inl (dA, 28, .inl ht_z))]) hx hb hts hown hK I hin 7 (by decide) q220 rfl (by decide +kernel) rfl rfl rfl (Nat.le_of_ble_eq_true rfl) rfl dX2_init_41 (fun H locs I => ?_)
  refine lv_aload_n hx hb dX2_init_44 rfl (lv_at hl 0 rfl) ?_
  refine lv_bipush (v := nI 28) hx hb dX2_init_45 (by decide) ?_
  refine ht_newa (k := 6) (n := 160) hx hb hts hK hA I (by decide) (by decide) (by decide) rfl rfl dX2_init_47 (fun a6 H I => ?_)
  have I : ht_I D A s.heap ([(h0, .inr (1, [.int 0, .int 0, .ref a1, .ref a2, .int 0, .ref a3, .ref a4, .ref a5, .null, .null, .null])), (a1, .inl (dA, 24, .inl ht_z)), (a2, .inl (dA, 24, .inl ht_z)), (a3, .inl (dA, 28, .inl ht_z)), (a4, .inl (dA, 28, .inl ht_z)), (a5, .inl (dA, 28, .inl ht_z)), (a6, .inl (dA, 28, .inl ht_z))]) H _ := I
  refine ht_putFM (ty := .array .int) (w3 := [(h0, .inr (1, [.int 0, .int 0, .ref a1, .ref a2, .int 0, .ref a3, .ref a4, .ref a5, .ref a6, .null, .null])), (a1, .inl (dA, 24, .inl ht_z)), (a2, .inl (dA, 24, .inl ht_z)), (a3, .inl (dA, 28, .inl ht_z)), (a4, .inl (dA, 28, .inl ht_z)), (a5, .inl (dA, 28, .inl ht_z)), (a6, .inl (dA, 28, .inl ht_z))]) hx hb hts hown hK I hin 8 (by decide) q221 rfl (by decide +kernel) rfl rfl rfl (Nat.le_of_ble_eq_true rfl) rfl dX2_init_49 (fun H locs I => ?_)
  refine lv_aload_n hx hb dX2_init_52 rfl (lv_at hl 0 rfl) ?_
  refine lv_bipush (v := nI 24) hx hb dX2_init_53 (by decide) ?_
  refine ht_newa (k := 7) (n := 184) hx hb hts hK hA I (by decide) (by decide) (by decide) rfl rfl dX2_init_55 (fun a7 H I => ?_)
  have I : ht_I D A s.heap ([(h0, .inr (1, [.int 0, .int 0, .ref a1, .ref a2, .int 0, .ref a3, .ref a4, .ref a5, .ref a6, .null, .null])), (a1, .inl (dA, 24, .inl ht_z)), (a2, .inl (dA, 24, .inl ht_z)), (a3, .inl (dA, 28, .inl ht_z)), (a4, .inl (dA, 28, .inl ht_z)), (a5, .inl (dA, 28, .inl ht_z)), (a6, .inl (dA, 28, .inl ht_z)), (a7, .inl (dA, 24, .inl ht_z))]) H _ := I
  refine ht_putFM (ty := .array .int) (w3 := [(h0, .inr (1, [.int 0, .int 0, .ref a1, .ref a2, .int 0, .ref a3, .ref a4, .ref a5, .ref a6, .ref a7, .null])), (a1, .inl (dA, 24, .inl ht_z)), (a2, .inl (dA, 24, .inl ht_z)), (a3, .inl (dA, 28, .inl ht_z)), (a4, .inl (dA, 28, .inl ht_z)), (a5, .inl (dA, 28, .inl ht_z)), (a6, .inl (dA, 28, .inl ht_z)), (a7, .inl (dA, 24, .inl ht_z))]) hx hb hts hown hK I hin 9 (by decide) q222 rfl (by decide +kernel) rfl rfl rfl (Nat.le_of_ble_eq_true rfl) rfl dX2_init_57 (fun H locs I => ?_)
  refine lv_aload_n hx hb dX2_init_60 rfl (lv_at hl 0 rfl) ?_
  refine lv_bipush (v := nI 24) hx hb dX2_init_61 (by decide) ?_
  refine ht_newa (k := 8) (n := 208) hx hb hts hK hA I (by decide) (by decide) (by decide) rfl rfl dX2_init_63 (fun a8 H I => ?_)
  have I : ht_I D A s.heap ([(h0, .inr (1, [.int 0, .int 0, .ref a1, .ref a2, .int 0, .ref a3, .ref a4, .ref a5, .ref a6, .ref a7, .null])), (a1, .inl (dA, 24, .inl ht_z)), (a2, .inl (dA, 24, .inl ht_z)), (a3, .inl (dA, 28, .inl ht_z)), (a4, .inl (dA, 28, .inl ht_z)), (a5, .inl (dA, 28, .inl ht_z)), (a6, .inl (dA, 28, .inl ht_z)), (a7, .inl (dA, 24, .inl ht_z)), (a8, .inl (dA, 24, .inl ht_z))]) H _ := I
  refine ht_putFM (ty := .array .int) (w3 := [(h0, .inr (1, [.int 0, .int 0, .ref a1, .ref a2, .int 0, .ref a3, .ref a4, .ref a5, .ref a6, .ref a7, .ref a8])), (a1, .inl (dA, 24, .inl ht_z)), (a2, .inl (dA, 24, .inl ht_z)), (a3, .inl (dA, 28, .inl ht_z)), (a4, .inl (dA, 28, .inl ht_z)), (a5, .inl (dA, 28, .inl ht_z)), (a6, .inl (dA, 28, .inl ht_z)), (a7, .inl (dA, 24, .inl ht_z)), (a8, .inl (dA, 24, .inl ht_z))]) hx hb hts hown hK I hin 10 (by decide) q223 rfl (by decide +kernel) rfl rfl rfl (Nat.le_of_ble_eq_true rfl) rfl dX2_init_65 (fun H locs I => ?_)
  refine lv_iload_n hx hb dX2_init_68 rfl (lv_at hl 1 rfl) ?_
  refine lv_istore_n (lv' := [(2, .int v), (0, .ref h0), (1, .int v)]) hx hb dX2_init_69 rfl hl (by decide) rfl (fun ls hl => ?_)
  refine lv_iload_n hx hb dX2_init_70 rfl (lv_at hl 0 rfl) ?_
  refine lv_iconst (v := nI 1) hx hb dX2_init_71 (by decide) ?_
  refine lv_icmp_ge (tgt := 77) hx hb dX2_init_72 (by decide) (fun c_1 => ?_) (fun c_1 => ?_)
  · refine lv_iload_n hx hb dX2_init_77 rfl (lv_at hl 0 rfl) ?_
    refine lv_bipush (v := nI 12) hx hb dX2_init_78 (by decide) ?_
    refine lv_icmp_le (tgt := 86) hx hb dX2_init_80 (by decide) (fun c_2 => ?_) (fun c_2 => ?_)
    · refine lv_aload_n hx hb dX2_init_86 rfl (lv_at hl 1 rfl) ?_
      refine lv_iload_n hx hb dX2_init_87 rfl (lv_at hl 0 rfl) ?_
      refine ht_putFM (ty := .int) (w3 := [(h0, .inr (1, [.int (v), .int 0, .ref a1, .ref a2, .int 0, .ref a3, .ref a4, .ref a5, .ref a6, .ref a7, .ref a8])), (a1, .inl (dA, 24, .inl ht_z)), (a2, .inl (dA, 24, .inl ht_z)), (a3, .inl (dA, 28, .inl ht_z)), (a4, .inl (dA, 28, .inl ht_z)), (a5, .inl (dA, 28, .inl ht_z)), (a6, .inl (dA, 28, .inl ht_z)), (a7, .inl (dA, 24, .inl ht_z)), (a8, .inl (dA, 24, .inl ht_z))]) hx hb hts hown hK I hin 0 (by decide) q213 rfl (by decide +kernel) rfl rfl rfl (Nat.le_of_ble_eq_true rfl) rfl dX2_init_88 (fun H locs I => ?_)
      have ez : v = nI (ht_lz v) := by unfold ht_lz; rw [if_pos c_1, if_pos c_2, (ht_lz_nat c_1 c_2).1]
      rw [ez] at I
      exact W.vret hx hb hr (fun t ht hW => ⟨⟨(), rfl, trivial, (fun k => [h0, a1, a2, a3, a4, a5, a6, a7, a8].getD k 0), dA, rfl, by rw [ht]; exact I.1, va_K.moved hW.alike hK, I.2.1⟩, I.2.2.F ht⟩) I.2.2.2.2 dX2_init_91 hlk
    · refine lv_bipush (v := nI 12) hx hb dX2_init_83 (by decide) ?_
      refine lv_istore_n (lv' := [(2, .int (nI 12)), (0, .ref h0), (1, .int v)]) hx hb dX2_init_85 rfl hl (by decide) rfl (fun ls hl => ?_)
      refine lv_aload_n hx hb dX2_init_86 rfl (lv_at hl 1 rfl) ?_
      refine lv_iload_n hx hb dX2_init_87 rfl (lv_at hl 0 rfl) ?_
      refine ht_putFM (ty := .int) (w3 := [(h0, .inr (1, [.int (nI 12), .int 0, .ref a1, .ref a2, .int 0, .ref a3, .ref a4, .ref a5, .ref a6, .ref a7, .ref a8])), (a1, .inl (dA, 24, .inl ht_z)), (a2, .inl (dA, 24, .inl ht_z)), (a3, .inl (dA, 28, .inl ht_z)), (a4, .inl (dA, 28, .inl ht_z)), (a5, .inl (dA, 28, .inl ht_z)), (a6, .inl (dA, 28, .inl ht_z)), (a7, .inl (dA, 24, .inl ht_z)), (a8, .inl (dA, 24, .inl ht_z))]) hx hb hts hown hK I hin 0 (by decide) q213 rfl (by decide +kernel) rfl rfl rfl (Nat.le_of_ble_eq_true rfl) rfl dX2_init_88 (fun H locs I => ?_)
      have ez : nI 12 = nI (ht_lz v) := by unfold ht_lz; rw [if_pos c_1, if_neg c_2]
      rw [ez] at I
      exact W.vret hx hb hr (fun t ht hW => ⟨⟨(), rfl, trivial, (fun k => [h0, a1, a2, a3, a4, a5, a6, a7, a8].getD k 0), dA, rfl, by rw [ht]; exact I.1, va_K.moved hW.alike hK, I.2.1⟩, I.2.2.F ht⟩) I.2.2.2.2 dX2_init_91 hlk
  · refine lv_iconst (v := nI 1) hx hb dX2_init_75 (by decide) ?_
    refine lv_istore_n (lv' := [(2, .int (nI 1)), (0, .ref h0), (1, .int v)]) hx hb dX2_init_76 rfl hl (by decide) rfl (fun ls hl => ?_)
    refine lv_iload_n hx hb dX2_init_77 rfl (lv_at hl 0 rfl) ?_
    refine lv_bipush (v := nI 12) hx hb dX2_init_78 (by decide) ?_
    refine lv_icmp_le (tgt := 86) hx hb dX2_init_80 (by decide) (fun c_2 => ?_) (fun c_2 => ?_)
    · refine lv_aload_n hx hb dX2_init_86 rfl (lv_at hl 1 rfl) ?_
      refine lv_iload_n hx hb dX2_init_87 rfl (lv_at hl 0 rfl) ?_
      refine ht_putFM (ty := .int) (w3 := [(h0, .inr (1, [.int (nI 1), .int 0, .ref a1, .ref a2, .int 0, .ref a3, .ref a4, .ref a5, .ref a6, .ref a7, .ref a8])), (a1, .inl (dA, 24, .inl ht_z)), (a2, .inl (dA, 24, .inl ht_z)), (a3, .inl (dA, 28, .inl ht_z)), (a4, .inl (dA, 28, .inl ht_z)), (a5, .inl (dA, 28, .inl ht_z)), (a6, .inl (dA, 28, .inl ht_z)), (a7, .inl (dA, 24, .inl ht_z)), (a8, .inl (dA, 24, .inl ht_z))]) hx hb hts hown hK I hin 0 (by decide) q213 rfl (by decide +kernel) rfl rfl rfl (Nat.le_of_ble_eq_true rfl) rfl dX2_init_88 (fun H locs I => ?_)
      have ez : nI 1 = nI (ht_lz v) := by unfold ht_lz; rw [if_neg c_1]
      rw [ez] at I
      exact W.vret hx hb hr (fun t ht hW => ⟨⟨(), rfl, trivial, (fun k => [h0, a1, a2, a3, a4, a5, a6, a7, a8].getD k 0), dA, rfl, by rw [ht]; exact I.1, va_K.moved hW.alike hK, I.2.1⟩, I.2.2.F ht⟩) I.2.2.2.2 dX2_init_91 hlk
    · exact absurd (show nI 1 ≤ nI 12 by decide) c_2
end
section
/-! LAW 1: what holds between two calls of the law -/
-- five rows of the kit's BITS family
def bt (x : Int32) (i : Nat) : Bool := x.toBitVec.getLsbD i
theorem b_ext {x y : Int32} (h : ∀ i, i < 32 → bt x i = bt y i) : x = y := Int32.toBitVec_inj.mp (BitVec.eq_of_getLsbD_eq (fun i hi => h i hi))
theorem b_and (x y : Int32) (i : Nat) : bt (x &&& y) i = (bt x i && bt y i) := by unfold bt; rw [Int32.toBitVec_and, BitVec.getLsbD_and]
theorem s_l : ∀ n, n < 32 → ((nI n &&& 31).toBitVec.smod 32).toNat = n := by decide +kernel
theorem b_sshr (n : Nat) (hn : n < 32) (x : Int32) {i : Nat} (hi : i < 32) : bt (x >>> (nI n &&& 31)) i = if n + i < 32 then bt x (n + i) else bt x 31 := by
  unfold bt
  rw [Int32.toBitVec_shiftRight]
  show (x.toBitVec.sshiftRight ((nI n &&& 31).toBitVec.smod 32).toNat).getLsbD i = _
  rw [s_l n hn, BitVec.getLsbD_sshiftRight, BitVec.msb_eq_getLsbD_last]
  simp [hi]
theorem ht_b511 : ∀ j, j < 9 → bt (nI 511) j = true := by decide +kernel
theorem ht_b7 : ∀ j, j < 32 → 3 ≤ j → bt (nI 7) j = false := by decide +kernel
theorem ht_cl_mask (x : Int32) {f : Int32} (h0 : ¬ f < 0) (h2 : f.toInt ≤ 2) : ht_cl (x &&& nI 511) f = ht_cl x f := by
  obtain ⟨k, hk, rfl⟩ := nI_of h0
  rw [nI_toInt hk] at h2
  unfold ht_cl
  rw [pk_mul]
  refine b_ext (fun i hi => ?_)
  rw [b_and, b_and, b_sshr (3 * k) (by omega) _ hi, b_sshr (3 * k) (by omega) _ hi]
  rcases Nat.lt_or_ge i 3 with h | h
  · rw [if_pos (by omega), if_pos (by omega), b_and, ht_b511 _ (by omega), Bool.and_true]
  · rw [ht_b7 i hi h, Bool.and_false, Bool.and_false]
theorem ht_addI {a b : Int32} (h : (a.toInt + b.toInt).natAbs < 2 ^ 31) : (a + b).toInt = a.toInt + b.toInt := by
  have e : a + b = Int32.ofInt (a.toInt + b.toInt) := by rw [Int32.ofInt_add, Int32.ofInt_toInt, Int32.ofInt_toInt]
  rw [e, Int32.toInt_ofInt_of_le (by omega) (by omega)]
theorem ht_subI {a b : Int32} (h : (a.toInt - b.toInt).natAbs < 2 ^ 31) : (a - b).toInt = a.toInt - b.toInt := by
  have e : a - b = Int32.ofInt (a.toInt - b.toInt) := by rw [Int32.ofInt_sub, Int32.ofInt_toInt, Int32.ofInt_toInt]
  rw [e, Int32.toInt_ofInt_of_le (by omega) (by omega)]
def ht_INV (ln cn tn : Nat) (T SF LV : Nat → Int32) : Prop := 0 < ln ∧ ln ≤ 12 ∧ cn ≤ 24 ∧ tn ≤ 4 ∧ (∀ i, i < cn → (T i).toInt.natAbs ≤ 50) ∧ ∀ t, t < tn → ∀ j, j < 7 → (SF (t * 7 + j)).toInt ≤ 2 ∧ (LV (t * 7 + j)).toInt.natAbs ≤ 50 * 2 ^ t
theorem ht_step_le (SF SB : Nat → Int32) (t : Nat) (fe : Int32) (nd : Nat) : ht_step SF SB t fe nd ≤ 2 * nd + 2 := by
  unfold ht_step
  split
  · omega
  · split <;> omega
theorem ht_walk_le (SF SB : Nat → Int32) (t : Nat) (fe : Int32) : ht_walk SF SB t fe 2 0 < 7 := by
  show ht_step SF SB t fe (ht_step SF SB t fe 0) < 7
  have h1 := ht_step_le SF SB t fe 0
  have h2 := ht_step_le SF SB t fe (ht_step SF SB t fe 0)
  omega
section
variable {ln cn tn : Nat} {F T SF SB LV NR RE ND : Nat → Int32}
theorem ht_pow {n : Nat} (h : n ≤ 4) : 2 ^ n ≤ 16 := Nat.pow_le_pow_right (n := 2) (by omega) h
theorem ht_pred_bd (I : ht_INV ln cn tn T SF LV) (fe : Int32) : ∀ n, n ≤ tn → (ht_pred SF SB LV fe n).toInt.natAbs + 50 ≤ 50 * 2 ^ n
  | 0, _ => by show (0 : Int).natAbs + 50 ≤ 50 * 2 ^ 0; decide
  | n + 1, hn => by
    have ih := ht_pred_bd I fe n (by omega)
    have h4 := I.2.2.2.1
    have hp := ht_pow (n := n) (by omega)
    have hl := (I.2.2.2.2.2 n (by omega) (ht_walk SF SB n fe 2 0) (ht_walk_le SF SB n fe)).2
    have hl : (ht_leaf SF SB LV fe n).toInt.natAbs ≤ 50 * 2 ^ n := hl
    show (ht_pred SF SB LV fe n + ht_leaf SF SB LV fe n).toInt.natAbs + 50 ≤ 50 * 2 ^ (n + 1)
    rw [ht_addI (by omega), Nat.pow_succ]
    omega
theorem ht_rest_bd (I : ht_INV ln cn tn T SF LV) {i : Nat} (hi : i < cn) : (ht_rest SF SB LV F T tn i).toInt.natAbs ≤ 50 * 2 ^ tn := by
  have h1 := ht_pred_bd (SB := SB) I (F i) tn (Nat.le_refl _)
  have h2 := I.2.2.2.2.1 i hi
  have hp := ht_pow I.2.2.2.1
  unfold ht_rest
  rw [ht_subI (by omega)]
  omega
theorem ht_rest_400 (I : ht_INV ln cn tn T SF LV) (h4 : tn < 4) : ∀ i, i < cn → (ht_rest SF SB LV F T tn i).toInt.natAbs ≤ 400 := by
  intro i hi
  have h := ht_rest_bd (F := F) (SB := SB) I hi
  have hp : 2 ^ tn ≤ 8 := Nat.pow_le_pow_right (n := 2) (by omega) (show tn ≤ 3 by omega)
  omega
theorem ht_step_mask (I : ht_INV ln cn tn T SF LV) {t nd : Nat} (ht : t < tn) (hn : nd < 7) (fe : Int32) : ht_step SF SB t (fe &&& nI 511) nd = ht_step SF SB t fe nd := by
  unfold ht_step
  by_cases h : SF (t * 7 + nd) < 0
  · rw [if_pos h, if_pos h]
  · rw [if_neg h, if_neg h, ht_cl_mask fe h (I.2.2.2.2.2 t ht nd hn).1]
theorem ht_pred_mask (I : ht_INV ln cn tn T SF LV) (fe : Int32) : ∀ n, n ≤ tn → ht_pred SF SB LV (fe &&& nI 511) n = ht_pred SF SB LV fe n
  | 0, _ => rfl
  | n + 1, hn => by
    show ht_pred SF SB LV (fe &&& nI 511) n + ht_leaf SF SB LV (fe &&& nI 511) n = ht_pred SF SB LV fe n + ht_leaf SF SB LV fe n
    rw [ht_pred_mask I fe n (by omega)]
    have e : ht_walk SF SB n (fe &&& nI 511) 2 0 = ht_walk SF SB n fe 2 0 := by
      show ht_step SF SB n (fe &&& nI 511) (ht_step SF SB n (fe &&& nI 511) 0) = ht_step SF SB n fe (ht_step SF SB n fe 0)
      rw [ht_step_mask (nd := 0) I (by omega) (by omega) fe]
      have := ht_step_le SF SB n fe 0
      rw [ht_step_mask I (by omega) (by omega) fe]
    unfold ht_leaf
    rw [e]
theorem ht_INV_row {fe tg r : Int32} {u : Nat × ht_f3 × ht_f3} (I : ht_INV ln cn tn T SF LV) (h : (r, u) = ht_row cn F T fe tg) : ht_INV ln u.1 tn u.2.2 SF LV := by
  unfold ht_row at h
  by_cases c1 : tg < (-50)
  · rw [if_pos c1] at h
    simp only [Prod.mk.injEq] at h
    rw [h.2]
    exact I
  rw [if_neg c1] at h
  by_cases c2 : tg ≤ nI 50
  · rw [if_pos c2] at h
    by_cases c3 : cn < 24
    · rw [if_pos c3] at h
      simp only [Prod.mk.injEq] at h
      rw [h.2]
      refine ⟨I.1, I.2.1, c3, I.2.2.2.1, fun i hi => ?_, I.2.2.2.2.2⟩
      dsimp only at hi ⊢
      by_cases e : i = cn
      · rw [e, pk_us]
        have a1 : ¬ tg.toInt < -50 := fun q => c1 (Int32.lt_iff_toInt_lt.mpr (by rw [show ((-50 : Int32)).toInt = -50 by decide]; exact q))
        have a2 := Int32.le_iff_toInt_le.mp c2
        rw [nI_toInt (by decide)] at a2
        omega
      · rw [pk_un e]
        exact I.2.2.2.2.1 i (by omega)
    · rw [if_neg c3] at h
      simp only [Prod.mk.injEq] at h
      rw [h.2]
      exact I
  · rw [if_neg c2] at h
    simp only [Prod.mk.injEq] at h
    rw [h.2]
    exact I
theorem ht_INV_retarget {i tg r : Int32} {u : ht_f3} (I : ht_INV ln cn tn T SF LV) (h : (r, u) = ht_retarget cn T i tg) : ht_INV ln cn tn u SF LV := by
  unfold ht_retarget at h
  by_cases c1 : i < 0
  · rw [if_pos c1] at h
    simp only [Prod.mk.injEq] at h
    rw [h.2]
    exact I
  rw [if_neg c1] at h
  by_cases c2 : i < nI cn
  · rw [if_pos c2] at h
    by_cases c3 : tg < (-50)
    · rw [if_pos c3] at h
      simp only [Prod.mk.injEq] at h
      rw [h.2]
      exact I
    rw [if_neg c3] at h
    by_cases c4 : tg ≤ nI 50
    · rw [if_pos c4] at h
      simp only [Prod.mk.injEq] at h
      rw [h.2]
      refine ⟨I.1, I.2.1, I.2.2.1, I.2.2.2.1, fun q hq => ?_, I.2.2.2.2.2⟩
      by_cases e : q = i.toNatClampNeg
      · rw [e, pk_us]
        have a1 : ¬ tg.toInt < -50 := fun q => c3 (Int32.lt_iff_toInt_lt.mpr (by rw [show ((-50 : Int32)).toInt = -50 by decide]; exact q))
        have a2 := Int32.le_iff_toInt_le.mp c4
        rw [nI_toInt (by decide)] at a2
        omega
      · rw [pk_un e]
        exact I.2.2.2.2.1 q hq
    · rw [if_neg c4] at h
      simp only [Prod.mk.injEq] at h
      rw [h.2]
      exact I
  · rw [if_neg c2] at h
    simp only [Prod.mk.injEq] at h
    rw [h.2]
    exact I
theorem ht_INV_drop {r : Int32} {u : Nat} (I : ht_INV ln cn tn T SF LV) (h : (r, u) = ht_drop tn) : ht_INV ln cn u T SF LV := by
  have hu : u ≤ tn := by
    unfold ht_drop at h
    by_cases c : tn = 0
    · rw [if_pos c] at h
      simp only [Prod.mk.injEq] at h
      omega
    · rw [if_neg c] at h
      simp only [Prod.mk.injEq] at h
      omega
  exact ⟨I.1, I.2.1, I.2.2.1, Nat.le_trans hu I.2.2.2.1, I.2.2.2.2.1, fun t ht => I.2.2.2.2.2 t (by omega)⟩
theorem ht_INV_clear (I : ht_INV ln cn tn T SF LV) : ht_INV ln 0 0 T SF LV := ⟨I.1, I.2.1, by omega, by omega, fun i hi => absurd hi (by omega), fun t ht => absurd ht (by omega)⟩
theorem ht_INV_train {r : Int32} {u : ht_U} (I : ht_INV ln cn tn T SF LV) (h : (r, u) = ht_train ln cn tn F T SF SB LV NR RE ND) : ht_INV ln cn u.1 T u.2.1 u.2.2.2.1 := by
  unfold ht_train at h
  by_cases c : tn < 4
  · rw [if_pos c] at h
    simp only [Prod.mk.injEq] at h
    rw [h.2]
    dsimp only
    refine ⟨I.1, I.2.1, I.2.2.1, by omega, I.2.2.2.2.1, fun t ht j hj => ?_⟩
    rcases Nat.lt_or_ge t tn with q | q
    · have e := ht_tr_out (ln := ln) (cn := cn) (F := F) (RE := ht_re cn tn F T SF SB LV RE) (t := tn) (σ := ht_t0 cn tn SF SB LV NR ND) (j := t * 7 + j) (by omega) 7 (by omega)
      rw [e.1, e.2]
      show (ht_put SF (tn * 7) 7 (fun _ => (-7)) (t * 7 + j)).toInt ≤ 2 ∧ (ht_put LV (tn * 7) 7 (fun _ => nI 0) (t * 7 + j)).toInt.natAbs ≤ 50 * 2 ^ t
      rw [ht_put_out (by omega), ht_put_out (by omega)]
      exact I.2.2.2.2.2 t q j hj
    · have et : t = tn := by omega
      subst et
      have hp : 2 ^ t ≤ 8 := Nat.pow_le_pow_right (n := 2) (by omega) (show t ≤ 3 by omega)
      have h0 : ∀ j, j < 7 → ((ht_t0 cn t SF SB LV NR ND).1 (t * 7 + j)).toInt ≤ 2 ∧ ((ht_t0 cn t SF SB LV NR ND).2.2.1 (t * 7 + j)).toInt.natAbs ≤ 50 * 2 ^ t := fun j hj => by
        rw [ht_t0_SF j hj, ht_t0_LV j hj]
        refine ⟨by decide, ?_⟩
        show (0 : Int).natAbs ≤ _
        omega
      have hr : ∀ i, i < cn → (ht_re cn t F T SF SB LV RE i).toInt.natAbs ≤ 50 * 2 ^ t := ht_re_bd (fun i hi => ht_rest_bd I hi)
      have key : ∀ k, k ≤ 7 → ((ht_tr7 ln cn t F T SF SB LV NR RE ND k).1 (t * 7 + j)).toInt ≤ 2 ∧ ((ht_tr7 ln cn t F T SF SB LV NR RE ND k).2.2.1 (t * 7 + j)).toInt.natAbs ≤ 50 * 2 ^ t := fun k hk => ht_tr_bd (ln := ln) (cn := cn) (F := F) (RE := ht_re cn t F T SF SB LV RE) (t := t) (σ := ht_t0 cn t SF SB LV NR ND) (b := 50 * 2 ^ t) I.1 I.2.2.1 (by omega) hr h0 k hk j hj
      exact key 7 (by omega)
  · rw [if_neg c] at h
    simp only [Prod.mk.injEq] at h
    rw [h.2]
    exact I
end
/-- the loop's test -/
theorem ht_end {L i : Nat} (hL : L ≤ 193) (hi : i ≤ 400) (h : ¬ nI L - nI 3 < nI i) : i + 3 ≤ L := by
  have a := Int32.not_lt.mp h
  have b := Int32.le_iff_toInt_le.mp a
  rw [pk_sub_toInt (by omega) (by omega), nI_toInt (by omega)] at b
  omega
end
section
/-! THE CLAIM OUT OF ONE WALK OF THE LAW'S BODY. Your part is whole_start (and what it stands on); all else here is the same for every law, but numbers. -/
def R_law : String := "HistogramTreeLaw"
def lw_P (b : Addr) (xs : List Int32) (args : Array Value) (s : State) : Prop := args = #[.ref b] ∧ s.IntsAt b xs ∧ xs.length ≤ 193 ∧ (Jvm.Cond.and given_1 narrow_1).before args s = true
def lw_Q (_ : Array Value) (s : State) (o : Outcome) (t : State) : Prop := o = .returned (some (.int 1)) ∧ Framed s o t [] 600000 7290000
def lw_Z (below : List Frame) (a : Array Value) (s : State) : State → Prop := fun t => ∃ o, t.status = .running ∧ Ended t below o ∧ lw_Q a s o t
/-- the law's own end, with 1 on the stack, nothing written that was there before, its room as the claim has it -/
theorem lw_ret {p : Program} {l : Launch} {e : Env} {s : State} {m : MethodId} {below : List Frame} {meth : Method} {c : Code} {b : Nat} (hx : p.tables.exec = Jvm.exec) (hb : c.code = code) (hr : meth.sig.returnType = ret) (hlocks : meth.locks = false) {pc : Nat} {H : Heap} {ls : Array Slot} (hdg : decode code pc = .ok (.ireturn, 1)) : W p l e room_1 s m #[Value.ref b] below meth c H [] 600000 7290000 (lw_Z below #[Value.ref b] s) (F0 m pc ls [.int 1]) := by
  intro T hT X
  obtain ⟨fs, hret, hrun, hended, hW, hframe⟩ := X.leave (v := some (.int 1)) (hlocks := hlocks) (fun h => by rw [hr] at h; cases h)
  have hmeth' : T.vm.method? m = some meth := X.method'
  refine ⟨T.setFrames fs, ?_, .returned (some (.int 1)), hrun, hended, rfl, ⟨_, rfl⟩, hW, hframe⟩
  jvm_step X.here [X.here.top, hx, hb, hdg, hmeth', hr, ret, narrow_b1]
  (try refine ⟨rfl, ?_⟩); (try refine ⟨rfl, ?_⟩)
  first | (intro acts; rw [hret _ acts rfl rfl rfl]) | rw [hret _ _ rfl rfl rfl]
  exact Steps.refl _
/-- what holds at the law's entry: the machine, the code, the tables' words (any of lw_tbl by 'hts w (by decide +kernel)'), the script of L ints xs at the cell b, what the Statement gives of the start (any of its parts by flat_of_before) -/
def lw_At (p : Program) (s : State) (m : MethodId) (meth : Method) (c : Code) (b L : Nat) (xs : Nat → Int32) : Prop :=
  p.tables.exec = Jvm.exec ∧ c.code = code ∧ meth.sig.returnType = ret ∧ c.maxLocals = 4 ∧ s.vm.findClass R_law = some m.cls ∧ (∀ w ∈ lw_tbl, w.before #[Value.ref b] s = true) ∧ va_X b L xs s s.heap ∧ b < s.heap.size ∧ meth.locks = false ∧ (Jvm.Cond.and given_1 narrow_1).before #[Value.ref b] s = true
/-- the script, read -/
theorem ht_sld {p : Program} {l : Launch} {e : Env} {R : Room} {s : State} {m : MethodId} {args : Array Value} {below : List Frame} {meth : Method} {c : Code} {H : Heap} {locs : List Loc} {cells slots : Nat} {Q : State → Prop} {cc : ByteArray} {pc : Nat} {ls : Array Slot} {rest : List Value} {D : va_G} {A : Nat → Prop} {w : va_W} {b L : Nat} {xs : Nat → Int32} (hx : p.tables.exec = Jvm.exec) (hb : c.code = cc) (hX : va_X b L xs s s.heap) (hbl : b < s.heap.size) (hbA : ¬ A b) (I : ht_I D A s.heap w H locs) {j : Nat} (hj : j < L) (hL : L < 2 ^ 31) (hdg : decode cc pc = .ok (.iaload, 1))
    (kk : W p l e R s m args below meth c H locs cells slots Q (F0 m (pc + 1) ls (.int (xs j) :: rest))) : W p l e R s m args below meth c H locs cells slots Q (F0 m pc ls (.int (nI j) :: .ref b :: rest)) := by
  refine va_sld hx hb hX hbl hbA I.2.2 (vp_in_nI hj hL) hdg ?_
  rw [nI_clamp (Nat.lt_trans hj hL)]
  exact kk
def ht_sc (L : Nat) (xs : Nat → Int32) : Int32 := if 0 < L then xs 0 else nI 0
set_option maxHeartbeats 4000000 in
/-- cell(script, 0) -/
theorem lt_cell (l : Launch) (b L : Nat) (xs : Nat → Int32) (hL : L ≤ 193) (sz : Nat) : Met l yX0_cell (ws_ yX0_cell cX0_cell 2 (some .int)) (ht_Rm 0 0) (va_Pc [.ref b, .int (nI 0)] (fun U => U.heap.size = sz ∧ va_X b L xs U U.heap ∧ b < sz)) (va_Qi (fun (r : Int32) (_ : Unit) => r = ht_sc L xs) (fun _ _ => True) (va_A [] sz)) 0 0 (va_A [] sz) := by
  refine Met.ofW (cc := cX0_cell) (maxL := 2) (ret := some .int) (by decide) rfl ?_
  intro p e s m args below meth c s₁ B hml hv
  obtain ⟨rfl, hsz, hX, hbl⟩ := hv
  have hx := B.exec
  have hb := B.bytes
  have hr := B.returns
  have hlk := B.notSynchronized
  subst hsz
  have hbA : ¬ va_A [] s.heap.size b := fun q => by
    rcases q with ⟨k, e, h⟩ | h
    · simp at h
    · omega
  have hS : va_S (va_A [] s.heap.size) s.heap s.heap [] := va_S.rf
  generalize va_A [] s.heap.size = A at hbA hS ⊢
  have hl := lv_entry ([.ref b, .int (nI 0)]) (n := 2) (Nat.le_of_ble_eq_true rfl)
  rw [lg_entry_eq]
  generalize (lg_sl ([.ref b, .int (nI 0)]) ++ List.replicate (2 - (lg_sl ([.ref b, .int (nI 0)])).length) Slot.unset).toArray = ls at hl ⊢
  have hl : lv_has ls 2 [(0, .ref b), (1, .int (nI 0))] := hl
  refine lv_iload_n hx hb dX0_cell_0 rfl (lv_at hl 1 rfl) ?_
  refine lv_aload_n hx hb dX0_cell_1 rfl (lv_at hl 0 rfl) ?_
  refine va_slen hx hb hX hbl hbA hS dX0_cell_2 ?_
  refine ht_ge (a := 0) (b := L) (tgt := 12) hx hb dX0_cell_3 (by decide) (by omega) (by omega) (fun c_1 => ?_) (fun c_1 => ?_)
  · refine lv_iconst (v := nI 0) hx hb dX0_cell_12 (by decide) ?_
    exact W.iret hx hb hr (fun t ht hW => ⟨⟨nI 0, (), rfl, by unfold ht_sc; rw [if_neg (by omega)], trivial⟩, hS.F ht⟩) hS.2.2 dX0_cell_13 hlk
  · refine lv_aload_n hx hb dX0_cell_6 rfl (lv_at hl 0 rfl) ?_
    refine lv_iload_n hx hb dX0_cell_7 rfl (lv_at hl 1 rfl) ?_
    refine va_sld hx hb hX hbl hbA hS (vp_in_nI c_1 (by omega)) dX0_cell_8 ?_
    refine lv_goto (tgt := 13) hx hb dX0_cell_9 (by decide) ?_
    exact W.iret hx hb hr (fun t ht hW => ⟨⟨xs (nI 0).toNatClampNeg, (), rfl, by unfold ht_sc; rw [if_pos c_1]; rfl, trivial⟩, hS.F ht⟩) hS.2.2 dX0_cell_13 hlk
set_option maxHeartbeats 4000000 in
set_option maxRecDepth 100000 in
/-- the law's loop at its head -/
theorem ht_loop {p : Program} {e : Env} {s : State} {m : MethodId} {below : List Frame} {meth : Method} {c : Code} (l : Launch) {b L : Nat} {xs : Nat → Int32} {D : va_G} {dA : ClassId} {ad am : Nat → Nat} {ln : Nat} (hL : L ≤ 193) (C0 : lw_At p s m meth c b L xs) (hK : va_K D vwCl [(dA, .int)] s) :
    ∀ (n i cn tn : Nat) (bf bb : Int32) (bt bo : Int64) (F T SF SB LV NR RE ND CR CS : Nat → Int32), L ≤ i + n → i ≤ 196 → ht_INV ln cn tn T SF LV → ∀ (H : Heap) (locs : List Loc), ht_I D (fun q : Nat => s.heap.size ≤ q) s.heap (ht_X ad dA (nI ln) (nI cn) (nI tn) bf bb bt bo F T SF SB LV NR RE ND CR CS ++ ht_M am dA (nI ln) (nI cn) (nI tn) F T SF SB LV NR RE ND) H locs → ∀ ls : Array Slot, lv_has ls 4 [(3, .int (nI i)), (2, .ref (am 0)), (1, .ref (ad 0)), (0, .ref b)] → W p l e room_1 s m #[Value.ref b] below meth c H locs 20 780 (lw_Z below #[Value.ref b] s) (F0 m 28 ls []) := by
  obtain ⟨hx, hb, hr, hml, hown, hts0, hX, hbl, hlocks, hgv⟩ := id C0
  have hts : ∀ w ∈ lw_all, w.before #[Value.ref b] s = true := fun w h => hts0 w (lw_all_tbl h)
  have hA : ∀ q : Nat, s.heap.size ≤ q → (fun q : Nat => s.heap.size ≤ q) q := fun _ h => h
  have hbA : ¬ (fun q : Nat => s.heap.size ≤ q) b := Nat.not_le.mpr hbl
  intro n
  induction n with
  | zero =>
    intro i cn tn bf bb bt bo F T SF SB LV NR RE ND CR CS hin hi J H locs I ls hl
    obtain ⟨j1, j2, j3, j4, -⟩ := id J
    refine lv_iload_n hx hb dL_law_28 rfl (lv_at hl 0 rfl) ?_
    refine lv_aload_n hx hb dL_law_29 rfl (lv_at hl 3 rfl) ?_
    refine va_slen hx hb hX hbl hbA I.2.2 dL_law_30 ?_
    refine lv_iconst (v := nI 3) hx hb dL_law_31 (by decide) ?_
    refine lv_isub hx hb dL_law_32 ?_
    refine lv_icmp_gt (tgt := 404) hx hb dL_law_33 (by decide) (fun c_1 => ?_) (fun c_1 => ?_)
    · refine lv_iconst (v := 1) hx hb dL_law_404 (by decide) ?_
      refine va_forget (fun q h => I.2.2.2.2 q h) ?_
      refine W.widen (k := 600000) (n := 7290000) (by decide) (by decide) ?_
      exact lw_ret hx hb hr hlocks dL_law_405
    · exact absurd (ht_end hL (by omega) c_1) (by omega)
  | succ n ih =>
    intro i cn tn bf bb bt bo F T SF SB LV NR RE ND CR CS hin hi J H locs I ls hl
    obtain ⟨j1, j2, j3, j4, -⟩ := id J
    refine lv_iload_n hx hb dL_law_28 rfl (lv_at hl 0 rfl) ?_
    refine lv_aload_n hx hb dL_law_29 rfl (lv_at hl 3 rfl) ?_
    refine va_slen hx hb hX hbl hbA I.2.2 dL_law_30 ?_
    refine lv_iconst (v := nI 3) hx hb dL_law_31 (by decide) ?_
    refine lv_isub hx hb dL_law_32 ?_
    refine lv_icmp_gt (tgt := 404) hx hb dL_law_33 (by decide) (fun c_1 => ?_) (fun c_1 => ?_)
    · refine lv_iconst (v := 1) hx hb dL_law_404 (by decide) ?_
      refine va_forget (fun q h => I.2.2.2.2 q h) ?_
      refine W.widen (k := 600000) (n := 7290000) (by decide) (by decide) ?_
      exact lw_ret hx hb hr hlocks dL_law_405
    · have h3 := ht_end hL (by omega) c_1
      refine lv_aload_n hx hb dL_law_36 rfl (lv_at hl 3 rfl) ?_
      refine lv_iload_n hx hb dL_law_37 rfl (lv_at hl 0 rfl) ?_
      refine ht_sld hx hb hX hbl hbA I (by omega) (by omega) dL_law_38 ?_
      refine lv_bipush (v := nI 15) hx hb dL_law_39 (by decide) ?_
      refine lv_iand hx hb dL_law_41 ?_
      obtain ⟨j, hj, ej⟩ := pk_andE (xs i) (m := nI 15) 4 (by decide)
      refine ht_ti ej ?_
      have hj : j = 0 ∨ j = 1 ∨ j = 2 ∨ j = 3 ∨ j = 4 ∨ j = 5 ∨ j = 6 ∨ j = 7 ∨ j = 8 ∨ j = 9 ∨ j = 10 ∨ j = 11 ∨ 12 ≤ j ∧ j < 16 := by omega
      rcases hj with rfl | rfl | rfl | rfl | rfl | rfl | rfl | rfl | rfl | rfl | rfl | rfl | hj
      · refine lv_tableIn (off := 62) (tgt := 104) hx hb dL_law_42 (by decide) (by decide) (by decide) (by decide) ?_
        refine lv_aload_n hx hb dL_law_104 rfl (lv_at hl 2 rfl) ?_
        refine lv_aload_n hx hb dL_law_105 rfl (lv_at hl 3 rfl) ?_
        refine lv_iload_n hx hb dL_law_106 rfl (lv_at hl 0 rfl) ?_
        refine lv_iconst (v := nI 1) hx hb dL_law_107 (by decide) ?_
        refine lv_iadd hx hb dL_law_108 ?_
        refine ht_ti (nI_add i 1) ?_
        refine ht_sld hx hb hX hbl hbA I (by omega) (by omega) dL_law_109 ?_
        refine lv_aload_n hx hb dL_law_110 rfl (lv_at hl 3 rfl) ?_
        refine lv_iload_n hx hb dL_law_111 rfl (lv_at hl 0 rfl) ?_
        refine lv_iconst (v := nI 2) hx hb dL_law_112 (by decide) ?_
        refine lv_iadd hx hb dL_law_113 ?_
        refine ht_ti (nI_add i 2) ?_
        refine ht_sld hx hb hX hbl hbA I (by omega) (by omega) dL_law_114 ?_
        refine ht_callVi (As := [.int (xs (i + 1)), .int (xs (i + 2))]) (rest := []) (wr := ht_M am dA (nI ln) (nI cn) (nI tn) F T SF SB LV NR RE ND) (q0 := 0) (ci := 0) hx hb hml hown hts hK hA I (xt_row l D dA ad ln cn tn bf bb bt bo F T SF SB LV NR RE ND CR CS (xs (i + 1)) (xs (i + 2)) j3) (cwV 2 hts (lw_V q89 q90 q91 q26 q92) rfl rfl rfl (by decide +kernel) (by decide)) rfl rfl [0, 1, 2, 3, 4, 5, 6, 7, 8, 9, 10] [11, 12, 13, 14, 15, 16, 17, 18, 19] rfl rfl (by decide) (by decide) (by decide) rfl hl.1 rfl (Nat.le_of_ble_eq_true rfl) dL_law_115 (by decide) (fun r1 u1 H locs hp1 I => ?_)
        have I : ht_I D (fun q : Nat => s.heap.size ≤ q) s.heap (ht_M am dA (nI ln) (nI cn) (nI tn) F T SF SB LV NR RE ND ++ ht_X ad dA (nI ln) (nI u1.1) (nI tn) bf bb bt bo u1.2.1 u1.2.2 SF SB LV NR RE ND CR CS) H locs := I
        refine lv_aload_n hx hb dL_law_118 rfl (lv_at hl 1 rfl) ?_
        refine lv_aload_n hx hb dL_law_119 rfl (lv_at hl 3 rfl) ?_
        refine lv_iload_n hx hb dL_law_120 rfl (lv_at hl 0 rfl) ?_
        refine lv_iconst (v := nI 1) hx hb dL_law_121 (by decide) ?_
        refine lv_iadd hx hb dL_law_122 ?_
        refine ht_ti (nI_add i 1) ?_
        refine ht_sld hx hb hX hbl hbA I (by omega) (by omega) dL_law_123 ?_
        refine lv_aload_n hx hb dL_law_124 rfl (lv_at hl 3 rfl) ?_
        refine lv_iload_n hx hb dL_law_125 rfl (lv_at hl 0 rfl) ?_
        refine lv_iconst (v := nI 2) hx hb dL_law_126 (by decide) ?_
        refine lv_iadd hx hb dL_law_127 ?_
        refine ht_ti (nI_add i 2) ?_
        refine ht_sld hx hb hX hbl hbA I (by omega) (by omega) dL_law_128 ?_
        refine ht_callVi (As := [.int (xs (i + 1)), .int (xs (i + 2))]) (rest := [.int r1]) (wr := ht_X ad dA (nI ln) (nI u1.1) (nI tn) bf bb bt bo u1.2.1 u1.2.2 SF SB LV NR RE ND CR CS) (q0 := 0) (ci := 1) hx hb hml hown hts hK hA I (mt_row l D dA am ln cn tn F T SF SB LV NR RE ND (xs (i + 1)) (xs (i + 2)) j3) (cwV 2 hts (lw_V q247 q248 q249 q27 q250) rfl rfl rfl (by decide +kernel) (by decide)) rfl rfl [0, 1, 2, 3, 4, 5, 6, 7, 8] [9, 10, 11, 12, 13, 14, 15, 16, 17, 18, 19] rfl rfl (by decide) (by decide) (by decide) rfl hl.1 rfl (Nat.le_of_ble_eq_true rfl) dL_law_129 (by decide) (fun r2 u2 H locs hp2 I => ?_)
        have e12 := hp1.trans hp2.symm
        simp only [Prod.mk.injEq] at e12
        obtain ⟨e1, e2⟩ := e12
        subst e2
        have I : ht_I D (fun q : Nat => s.heap.size ≤ q) s.heap (ht_X ad dA (nI ln) (nI u1.1) (nI tn) bf bb bt bo u1.2.1 u1.2.2 SF SB LV NR RE ND CR CS ++ ht_M am dA (nI ln) (nI u1.1) (nI tn) u1.2.1 u1.2.2 SF SB LV NR RE ND) H locs := I
        refine lv_icmp_eq (tgt := 398) hx hb dL_law_132 (by decide) (fun c_2 => ?_) (fun c_2 => ?_)
        · refine lv_iinc (v := nI (i + 3)) (lv' := [(3, .int (nI (i + 3))), (2, .ref (am 0)), (1, .ref (ad 0)), (0, .ref b)]) hx hb dL_law_398 hl (k := 0) rfl (nI_add i 3) (by decide) rfl (fun ls hl => ?_)
          refine lv_goto (tgt := 28) hx hb dL_law_401 (by decide) ?_
          exact ih (i + 3) u1.1 tn bf bb bt bo u1.2.1 u1.2.2 SF SB LV NR RE ND CR CS (by omega) (by omega) (ht_INV_row J hp1) _ _ I ls hl
        · exact absurd e1 c_2
      · refine lv_tableIn (off := 95) (tgt := 137) hx hb dL_law_42 (by decide) (by decide) (by decide) (by decide) ?_
        refine lv_aload_n hx hb dL_law_137 rfl (lv_at hl 2 rfl) ?_
        refine lv_aload_n hx hb dL_law_138 rfl (lv_at hl 3 rfl) ?_
        refine lv_iload_n hx hb dL_law_139 rfl (lv_at hl 0 rfl) ?_
        refine lv_iconst (v := nI 1) hx hb dL_law_140 (by decide) ?_
        refine lv_iadd hx hb dL_law_141 ?_
        refine ht_ti (nI_add i 1) ?_
        refine ht_sld hx hb hX hbl hbA I (by omega) (by omega) dL_law_142 ?_
        refine lv_aload_n hx hb dL_law_143 rfl (lv_at hl 3 rfl) ?_
        refine lv_iload_n hx hb dL_law_144 rfl (lv_at hl 0 rfl) ?_
        refine lv_iconst (v := nI 2) hx hb dL_law_145 (by decide) ?_
        refine lv_iadd hx hb dL_law_146 ?_
        refine ht_ti (nI_add i 2) ?_
        refine ht_sld hx hb hX hbl hbA I (by omega) (by omega) dL_law_147 ?_
        refine ht_callVi (As := [.int (xs (i + 1)), .int (xs (i + 2))]) (rest := []) (wr := ht_M am dA (nI ln) (nI cn) (nI tn) F T SF SB LV NR RE ND) (q0 := 0) (ci := 0) hx hb hml hown hts hK hA I (xt_retarget l D dA ad ln cn tn bf bb bt bo F T SF SB LV NR RE ND CR CS (xs (i + 1)) (xs (i + 2)) j3) (cwV 2 hts (lw_V q93 q94 q95 q26 q96) rfl rfl rfl (by decide +kernel) (by decide)) rfl rfl [0, 1, 2, 3, 4, 5, 6, 7, 8, 9, 10] [11, 12, 13, 14, 15, 16, 17, 18, 19] rfl rfl (by decide) (by decide) (by decide) rfl hl.1 rfl (Nat.le_of_ble_eq_true rfl) dL_law_148 (by decide) (fun r1 u1 H locs hp1 I => ?_)
        have I : ht_I D (fun q : Nat => s.heap.size ≤ q) s.heap (ht_M am dA (nI ln) (nI cn) (nI tn) F T SF SB LV NR RE ND ++ ht_X ad dA (nI ln) (nI cn) (nI tn) bf bb bt bo F u1 SF SB LV NR RE ND CR CS) H locs := I
        refine lv_aload_n hx hb dL_law_151 rfl (lv_at hl 1 rfl) ?_
        refine lv_aload_n hx hb dL_law_152 rfl (lv_at hl 3 rfl) ?_
        refine lv_iload_n hx hb dL_law_153 rfl (lv_at hl 0 rfl) ?_
        refine lv_iconst (v := nI 1) hx hb dL_law_154 (by decide) ?_
        refine lv_iadd hx hb dL_law_155 ?_
        refine ht_ti (nI_add i 1) ?_
        refine ht_sld hx hb hX hbl hbA I (by omega) (by omega) dL_law_156 ?_
        refine lv_aload_n hx hb dL_law_157 rfl (lv_at hl 3 rfl) ?_
        refine lv_iload_n hx hb dL_law_158 rfl (lv_at hl 0 rfl) ?_
        refine lv_iconst (v := nI 2) hx hb dL_law_159 (by decide) ?_
        refine lv_iadd hx hb dL_law_160 ?_
        refine ht_ti (nI_add i 2) ?_
        refine ht_sld hx hb hX hbl hbA I (by omega) (by omega) dL_law_161 ?_
        refine ht_callVi (As := [.int (xs (i + 1)), .int (xs (i + 2))]) (rest := [.int r1]) (wr := ht_X ad dA (nI ln) (nI cn) (nI tn) bf bb bt bo F u1 SF SB LV NR RE ND CR CS) (q0 := 0) (ci := 1) hx hb hml hown hts hK hA I (mt_retarget l D dA am ln cn tn F T SF SB LV NR RE ND (xs (i + 1)) (xs (i + 2)) j3) (cwV 2 hts (lw_V q255 q256 q257 q27 q258) rfl rfl rfl (by decide +kernel) (by decide)) rfl rfl [0, 1, 2, 3, 4, 5, 6, 7, 8] [9, 10, 11, 12, 13, 14, 15, 16, 17, 18, 19] rfl rfl (by decide) (by decide) (by decide) rfl hl.1 rfl (Nat.le_of_ble_eq_true rfl) dL_law_162 (by decide) (fun r2 u2 H locs hp2 I => ?_)
        have e12 := hp1.trans hp2.symm
        simp only [Prod.mk.injEq] at e12
        obtain ⟨e1, e2⟩ := e12
        subst e2
        have I : ht_I D (fun q : Nat => s.heap.size ≤ q) s.heap (ht_X ad dA (nI ln) (nI cn) (nI tn) bf bb bt bo F u1 SF SB LV NR RE ND CR CS ++ ht_M am dA (nI ln) (nI cn) (nI tn) F u1 SF SB LV NR RE ND) H locs := I
        refine lv_icmp_eq (tgt := 398) hx hb dL_law_165 (by decide) (fun c_2 => ?_) (fun c_2 => ?_)
        · refine lv_iinc (v := nI (i + 3)) (lv' := [(3, .int (nI (i + 3))), (2, .ref (am 0)), (1, .ref (ad 0)), (0, .ref b)]) hx hb dL_law_398 hl (k := 0) rfl (nI_add i 3) (by decide) rfl (fun ls hl => ?_)
          refine lv_goto (tgt := 28) hx hb dL_law_401 (by decide) ?_
          exact ih (i + 3) cn tn bf bb bt bo F u1 SF SB LV NR RE ND CR CS (by omega) (by omega) (ht_INV_retarget J hp1) _ _ I ls hl
        · exact absurd e1 c_2
      · refine lv_tableIn (off := 128) (tgt := 170) hx hb dL_law_42 (by decide) (by decide) (by decide) (by decide) ?_
        refine lv_aload_n hx hb dL_law_170 rfl (lv_at hl 2 rfl) ?_
        refine ht_callVi (As := []) (rest := []) (wr := ht_M am dA (nI ln) (nI cn) (nI tn) F T SF SB LV NR RE ND) (q0 := 0) (ci := 0) hx hb hml hown hts hK hA I (xt_train l D dA ad ln cn tn bf bb bt bo F T SF SB LV NR RE ND CR CS j4 j3 j1 j2 (fun h4 => ht_rest_400 J h4)) (cwV 0 hts (lw_V q97 q98 q99 q26 q100) rfl rfl rfl (by decide +kernel) (by decide)) rfl rfl [0, 1, 2, 3, 4, 5, 6, 7, 8, 9, 10] [11, 12, 13, 14, 15, 16, 17, 18, 19] rfl rfl (by decide) (by decide) (by decide) rfl hl.1 rfl (Nat.le_of_ble_eq_true rfl) dL_law_171 (by decide) (fun r1 u1 H locs hp1 I => ?_)
        obtain ⟨v1, cR, cS, B⟩ := u1
        dsimp only at hp1
        have I : ht_I D (fun q : Nat => s.heap.size ≤ q) s.heap (ht_M am dA (nI ln) (nI cn) (nI tn) F T SF SB LV NR RE ND ++ ht_X ad dA (nI ln) (nI cn) (nI v1.1) B.1 B.2.1 B.2.2.1 B.2.2.2 F T v1.2.1 v1.2.2.1 v1.2.2.2.1 v1.2.2.2.2.1 v1.2.2.2.2.2.1 v1.2.2.2.2.2.2 cR cS) H locs := I
        refine lv_aload_n hx hb dL_law_174 rfl (lv_at hl 1 rfl) ?_
        refine ht_callVi (As := []) (rest := [.int r1]) (wr := ht_X ad dA (nI ln) (nI cn) (nI v1.1) B.1 B.2.1 B.2.2.1 B.2.2.2 F T v1.2.1 v1.2.2.1 v1.2.2.2.1 v1.2.2.2.2.1 v1.2.2.2.2.2.1 v1.2.2.2.2.2.2 cR cS) (q0 := 0) (ci := 1) hx hb hml hown hts hK hA I (mt_train l D dA am ln cn tn F T SF SB LV NR RE ND j4 j3 j1 j2 (fun h4 => ht_rest_400 J h4)) (cwV 0 hts (lw_V q259 q260 q261 q27 q262) rfl rfl rfl (by decide +kernel) (by decide)) rfl rfl [0, 1, 2, 3, 4, 5, 6, 7, 8] [9, 10, 11, 12, 13, 14, 15, 16, 17, 18, 19] rfl rfl (by decide) (by decide) (by decide) rfl hl.1 rfl (Nat.le_of_ble_eq_true rfl) dL_law_175 (by decide) (fun r2 u2 H locs hp2 I => ?_)
        have e12 := hp1.trans hp2.symm
        simp only [Prod.mk.injEq] at e12
        obtain ⟨e1, e2⟩ := e12
        subst e2
        have I : ht_I D (fun q : Nat => s.heap.size ≤ q) s.heap (ht_X ad dA (nI ln) (nI cn) (nI v1.1) B.1 B.2.1 B.2.2.1 B.2.2.2 F T v1.2.1 v1.2.2.1 v1.2.2.2.1 v1.2.2.2.2.1 v1.2.2.2.2.2.1 v1.2.2.2.2.2.2 cR cS ++ ht_M am dA (nI ln) (nI cn) (nI v1.1) F T v1.2.1 v1.2.2.1 v1.2.2.2.1 v1.2.2.2.2.1 v1.2.2.2.2.2.1 v1.2.2.2.2.2.2) H locs := I
        refine lv_icmp_eq (tgt := 398) hx hb dL_law_178 (by decide) (fun c_2 => ?_) (fun c_2 => ?_)
        · refine lv_iinc (v := nI (i + 3)) (lv' := [(3, .int (nI (i + 3))), (2, .ref (am 0)), (1, .ref (ad 0)), (0, .ref b)]) hx hb dL_law_398 hl (k := 0) rfl (nI_add i 3) (by decide) rfl (fun ls hl => ?_)
          refine lv_goto (tgt := 28) hx hb dL_law_401 (by decide) ?_
          exact ih (i + 3) cn v1.1 B.1 B.2.1 B.2.2.1 B.2.2.2 F T v1.2.1 v1.2.2.1 v1.2.2.2.1 v1.2.2.2.2.1 v1.2.2.2.2.2.1 v1.2.2.2.2.2.2 cR cS (by omega) (by omega) (ht_INV_train J hp1) _ _ I ls hl
        · exact absurd e1 c_2
      · refine lv_tableIn (off := 141) (tgt := 183) hx hb dL_law_42 (by decide) (by decide) (by decide) (by decide) ?_
        refine lv_aload_n hx hb dL_law_183 rfl (lv_at hl 2 rfl) ?_
        refine ht_callVi (As := []) (rest := []) (wr := ht_M am dA (nI ln) (nI cn) (nI tn) F T SF SB LV NR RE ND) (q0 := 0) (ci := 0) hx hb hml hown hts hK hA I (xt_dropTree l D dA ad ln cn tn bf bb bt bo F T SF SB LV NR RE ND CR CS j4) (cwV 0 hts (lw_V q164 q165 q166 q26 q167) rfl rfl rfl (by decide +kernel) (by decide)) rfl rfl [0, 1, 2, 3, 4, 5, 6, 7, 8, 9, 10] [11, 12, 13, 14, 15, 16, 17, 18, 19] rfl rfl (by decide) (by decide) (by decide) rfl hl.1 rfl (Nat.le_of_ble_eq_true rfl) dL_law_184 (by decide) (fun r1 u1 H locs hp1 I => ?_)
        have I : ht_I D (fun q : Nat => s.heap.size ≤ q) s.heap (ht_M am dA (nI ln) (nI cn) (nI tn) F T SF SB LV NR RE ND ++ ht_X ad dA (nI ln) (nI cn) (nI u1) bf bb bt bo F T SF SB LV NR RE ND CR CS) H locs := I
        refine lv_aload_n hx hb dL_law_187 rfl (lv_at hl 1 rfl) ?_
        refine ht_callVi (As := []) (rest := [.int r1]) (wr := ht_X ad dA (nI ln) (nI cn) (nI u1) bf bb bt bo F T SF SB LV NR RE ND CR CS) (q0 := 0) (ci := 1) hx hb hml hown hts hK hA I (mt_dropTree l D dA am ln cn tn F T SF SB LV NR RE ND j4) (cwV 0 hts (lw_V q299 q300 q301 q27 q302) rfl rfl rfl (by decide +kernel) (by decide)) rfl rfl [0, 1, 2, 3, 4, 5, 6, 7, 8] [9, 10, 11, 12, 13, 14, 15, 16, 17, 18, 19] rfl rfl (by decide) (by decide) (by decide) rfl hl.1 rfl (Nat.le_of_ble_eq_true rfl) dL_law_188 (by decide) (fun r2 u2 H locs hp2 I => ?_)
        have e12 := hp1.trans hp2.symm
        simp only [Prod.mk.injEq] at e12
        obtain ⟨e1, e2⟩ := e12
        subst e2
        have I : ht_I D (fun q : Nat => s.heap.size ≤ q) s.heap (ht_X ad dA (nI ln) (nI cn) (nI u1) bf bb bt bo F T SF SB LV NR RE ND CR CS ++ ht_M am dA (nI ln) (nI cn) (nI u1) F T SF SB LV NR RE ND) H locs := I
        refine lv_icmp_eq (tgt := 398) hx hb dL_law_191 (by decide) (fun c_2 => ?_) (fun c_2 => ?_)
        · refine lv_iinc (v := nI (i + 3)) (lv' := [(3, .int (nI (i + 3))), (2, .ref (am 0)), (1, .ref (ad 0)), (0, .ref b)]) hx hb dL_law_398 hl (k := 0) rfl (nI_add i 3) (by decide) rfl (fun ls hl => ?_)
          refine lv_goto (tgt := 28) hx hb dL_law_401 (by decide) ?_
          exact ih (i + 3) cn u1 bf bb bt bo F T SF SB LV NR RE ND CR CS (by omega) (by omega) (ht_INV_drop J hp1) _ _ I ls hl
        · exact absurd e1 c_2
      · refine lv_tableIn (off := 154) (tgt := 196) hx hb dL_law_42 (by decide) (by decide) (by decide) (by decide) ?_
        refine lv_aload_n hx hb dL_law_196 rfl (lv_at hl 2 rfl) ?_
        refine ht_callVv (As := []) (rest := []) (wr := ht_M am dA (nI ln) (nI cn) (nI tn) F T SF SB LV NR RE ND) (q0 := 0) (ci := 0) hx hb hml hown hts hK hA I (xt_clear l D dA ad ln cn tn bf bb bt bo F T SF SB LV NR RE ND CR CS) (cwV 0 hts (lw_V q168 q169 q170 q26 q171) rfl rfl rfl (by decide +kernel) (by decide)) rfl rfl [0, 1, 2, 3, 4, 5, 6, 7, 8, 9, 10] [11, 12, 13, 14, 15, 16, 17, 18, 19] rfl rfl (by decide) (by decide) (by decide) rfl hl.1 rfl (Nat.le_of_ble_eq_true rfl) dL_law_197 (by decide) (fun u1 H locs hp1 I => ?_)
        have I : ht_I D (fun q : Nat => s.heap.size ≤ q) s.heap (ht_M am dA (nI ln) (nI cn) (nI tn) F T SF SB LV NR RE ND ++ ht_X ad dA (nI ln) (nI 0) (nI 0) bf bb bt bo F T SF SB LV NR RE ND CR CS) H locs := I
        refine lv_aload_n hx hb dL_law_200 rfl (lv_at hl 1 rfl) ?_
        refine ht_callVv (As := []) (rest := []) (wr := ht_X ad dA (nI ln) (nI 0) (nI 0) bf bb bt bo F T SF SB LV NR RE ND CR CS) (q0 := 0) (ci := 1) hx hb hml hown hts hK hA I (mt_clear l D dA am ln cn tn F T SF SB LV NR RE ND) (cwV 0 hts (lw_V q303 q304 q305 q27 q306) rfl rfl rfl (by decide +kernel) (by decide)) rfl rfl [0, 1, 2, 3, 4, 5, 6, 7, 8] [9, 10, 11, 12, 13, 14, 15, 16, 17, 18, 19] rfl rfl (by decide) (by decide) (by decide) rfl hl.1 rfl (Nat.le_of_ble_eq_true rfl) dL_law_201 (by decide) (fun u2 H locs hp2 I => ?_)
        have I : ht_I D (fun q : Nat => s.heap.size ≤ q) s.heap (ht_X ad dA (nI ln) (nI 0) (nI 0) bf bb bt bo F T SF SB LV NR RE ND CR CS ++ ht_M am dA (nI ln) (nI 0) (nI 0) F T SF SB LV NR RE ND) H locs := I
        refine lv_goto (tgt := 398) hx hb dL_law_204 (by decide) ?_
        refine lv_iinc (v := nI (i + 3)) (lv' := [(3, .int (nI (i + 3))), (2, .ref (am 0)), (1, .ref (ad 0)), (0, .ref b)]) hx hb dL_law_398 hl (k := 0) rfl (nI_add i 3) (by decide) rfl (fun ls hl => ?_)
        refine lv_goto (tgt := 28) hx hb dL_law_401 (by decide) ?_
        exact ih (i + 3) 0 0 bf bb bt bo F T SF SB LV NR RE ND CR CS (by omega) (by omega) (ht_INV_clear J) _ _ I ls hl
      · refine lv_tableIn (off := 165) (tgt := 207) hx hb dL_law_42 (by decide) (by decide) (by decide) (by decide) ?_
        refine lv_aload_n hx hb dL_law_207 rfl (lv_at hl 2 rfl) ?_
        refine lv_aload_n hx hb dL_law_208 rfl (lv_at hl 3 rfl) ?_
        refine lv_iload_n hx hb dL_law_209 rfl (lv_at hl 0 rfl) ?_
        refine lv_iconst (v := nI 1) hx hb dL_law_210 (by decide) ?_
        refine lv_iadd hx hb dL_law_211 ?_
        refine ht_ti (nI_add i 1) ?_
        refine ht_sld hx hb hX hbl hbA I (by omega) (by omega) dL_law_212 ?_
        refine ht_callVi (As := [.int (xs (i + 1))]) (rest := []) (wr := ht_M am dA (nI ln) (nI cn) (nI tn) F T SF SB LV NR RE ND) (q0 := 0) (ci := 0) hx hb hml hown hts hK hA I (xt_predict l D dA ad ln cn tn bf bb bt bo F T SF SB LV NR RE ND CR CS (xs (i + 1)) j4) (cwV 1 hts (lw_V q172 q173 q174 q26 q175) rfl rfl rfl (by decide +kernel) (by decide)) rfl rfl [0, 1, 2, 3, 4, 5, 6, 7, 8, 9, 10] [11, 12, 13, 14, 15, 16, 17, 18, 19] rfl rfl (by decide) (by decide) (by decide) rfl hl.1 rfl (Nat.le_of_ble_eq_true rfl) dL_law_213 (by decide) (fun r1 u1 H locs hp1 I => ?_)
        have I : ht_I D (fun q : Nat => s.heap.size ≤ q) s.heap (ht_M am dA (nI ln) (nI cn) (nI tn) F T SF SB LV NR RE ND ++ ht_X ad dA (nI ln) (nI cn) (nI tn) bf bb bt bo F T SF SB LV NR RE ND CR CS) H locs := I
        refine lv_aload_n hx hb dL_law_216 rfl (lv_at hl 1 rfl) ?_
        refine lv_aload_n hx hb dL_law_217 rfl (lv_at hl 3 rfl) ?_
        refine lv_iload_n hx hb dL_law_218 rfl (lv_at hl 0 rfl) ?_
        refine lv_iconst (v := nI 1) hx hb dL_law_219 (by decide) ?_
        refine lv_iadd hx hb dL_law_220 ?_
        refine ht_ti (nI_add i 1) ?_
        refine ht_sld hx hb hX hbl hbA I (by omega) (by omega) dL_law_221 ?_
        refine ht_callVi (As := [.int (xs (i + 1))]) (rest := [.int r1]) (wr := ht_X ad dA (nI ln) (nI cn) (nI tn) bf bb bt bo F T SF SB LV NR RE ND CR CS) (q0 := 0) (ci := 1) hx hb hml hown hts hK hA I (mt_predict l D dA am ln cn tn F T SF SB LV NR RE ND (xs (i + 1)) j4) (cwV 1 hts (lw_V q307 q268 q269 q27 q270) rfl rfl rfl (by decide +kernel) (by decide)) rfl rfl [0, 1, 2, 3, 4, 5, 6, 7, 8] [9, 10, 11, 12, 13, 14, 15, 16, 17, 18, 19] rfl rfl (by decide) (by decide) (by decide) rfl hl.1 rfl (Nat.le_of_ble_eq_true rfl) dL_law_222 (by decide) (fun r2 u2 H locs hp2 I => ?_)
        have I : ht_I D (fun q : Nat => s.heap.size ≤ q) s.heap (ht_X ad dA (nI ln) (nI cn) (nI tn) bf bb bt bo F T SF SB LV NR RE ND CR CS ++ ht_M am dA (nI ln) (nI cn) (nI tn) F T SF SB LV NR RE ND) H locs := I
        refine lv_icmp_eq (tgt := 398) hx hb dL_law_225 (by decide) (fun c_2 => ?_) (fun c_2 => ?_)
        · refine lv_iinc (v := nI (i + 3)) (lv' := [(3, .int (nI (i + 3))), (2, .ref (am 0)), (1, .ref (ad 0)), (0, .ref b)]) hx hb dL_law_398 hl (k := 0) rfl (nI_add i 3) (by decide) rfl (fun ls hl => ?_)
          refine lv_goto (tgt := 28) hx hb dL_law_401 (by decide) ?_
          exact ih (i + 3) cn tn bf bb bt bo F T SF SB LV NR RE ND CR CS (by omega) (by omega) J _ _ I ls hl
        · exact absurd (hp1.trans ((ht_pred_mask J _ tn (Nat.le_refl tn)).trans hp2.symm)) c_2
      · refine lv_tableIn (off := 188) (tgt := 230) hx hb dL_law_42 (by decide) (by decide) (by decide) (by decide) ?_
        refine lv_aload_n hx hb dL_law_230 rfl (lv_at hl 2 rfl) ?_
        refine lv_aload_n hx hb dL_law_231 rfl (lv_at hl 3 rfl) ?_
        refine lv_iload_n hx hb dL_law_232 rfl (lv_at hl 0 rfl) ?_
        refine lv_iconst (v := nI 1) hx hb dL_law_233 (by decide) ?_
        refine lv_iadd hx hb dL_law_234 ?_
        refine ht_ti (nI_add i 1) ?_
        refine ht_sld hx hb hX hbl hbA I (by omega) (by omega) dL_law_235 ?_
        refine ht_callVi (As := [.int (xs (i + 1))]) (rest := []) (wr := ht_M am dA (nI ln) (nI cn) (nI tn) F T SF SB LV NR RE ND) (q0 := 0) (ci := 0) hx hb hml hown hts hK hA I (xt_rest l D dA ad ln cn tn bf bb bt bo F T SF SB LV NR RE ND CR CS (xs (i + 1)) j4 j3) (cwV 1 hts (lw_V q176 q177 q178 q26 q179) rfl rfl rfl (by decide +kernel) (by decide)) rfl rfl [0, 1, 2, 3, 4, 5, 6, 7, 8, 9, 10] [11, 12, 13, 14, 15, 16, 17, 18, 19] rfl rfl (by decide) (by decide) (by decide) rfl hl.1 rfl (Nat.le_of_ble_eq_true rfl) dL_law_236 (by decide) (fun r1 u1 H locs hp1 I => ?_)
        have I : ht_I D (fun q : Nat => s.heap.size ≤ q) s.heap (ht_M am dA (nI ln) (nI cn) (nI tn) F T SF SB LV NR RE ND ++ ht_X ad dA (nI ln) (nI cn) (nI tn) bf bb bt bo F T SF SB LV NR RE ND CR CS) H locs := I
        refine lv_aload_n hx hb dL_law_239 rfl (lv_at hl 1 rfl) ?_
        refine lv_aload_n hx hb dL_law_240 rfl (lv_at hl 3 rfl) ?_
        refine lv_iload_n hx hb dL_law_241 rfl (lv_at hl 0 rfl) ?_
        refine lv_iconst (v := nI 1) hx hb dL_law_242 (by decide) ?_
        refine lv_iadd hx hb dL_law_243 ?_
        refine ht_ti (nI_add i 1) ?_
        refine ht_sld hx hb hX hbl hbA I (by omega) (by omega) dL_law_244 ?_
        refine ht_callVi (As := [.int (xs (i + 1))]) (rest := [.int r1]) (wr := ht_X ad dA (nI ln) (nI cn) (nI tn) bf bb bt bo F T SF SB LV NR RE ND CR CS) (q0 := 0) (ci := 1) hx hb hml hown hts hK hA I (mt_rest l D dA am ln cn tn F T SF SB LV NR RE ND (xs (i + 1)) j4 j3) (cwV 1 hts (lw_V q308 q264 q265 q27 q266) rfl rfl rfl (by decide +kernel) (by decide)) rfl rfl [0, 1, 2, 3, 4, 5, 6, 7, 8] [9, 10, 11, 12, 13, 14, 15, 16, 17, 18, 19] rfl rfl (by decide) (by decide) (by decide) rfl hl.1 rfl (Nat.le_of_ble_eq_true rfl) dL_law_245 (by decide) (fun r2 u2 H locs hp2 I => ?_)
        have I : ht_I D (fun q : Nat => s.heap.size ≤ q) s.heap (ht_X ad dA (nI ln) (nI cn) (nI tn) bf bb bt bo F T SF SB LV NR RE ND CR CS ++ ht_M am dA (nI ln) (nI cn) (nI tn) F T SF SB LV NR RE ND) H locs := I
        refine lv_icmp_eq (tgt := 398) hx hb dL_law_248 (by decide) (fun c_2 => ?_) (fun c_2 => ?_)
        · refine lv_iinc (v := nI (i + 3)) (lv' := [(3, .int (nI (i + 3))), (2, .ref (am 0)), (1, .ref (ad 0)), (0, .ref b)]) hx hb dL_law_398 hl (k := 0) rfl (nI_add i 3) (by decide) rfl (fun ls hl => ?_)
          refine lv_goto (tgt := 28) hx hb dL_law_401 (by decide) ?_
          exact ih (i + 3) cn tn bf bb bt bo F T SF SB LV NR RE ND CR CS (by omega) (by omega) J _ _ I ls hl
        · exact absurd (hp1.trans hp2.symm) c_2
      · refine lv_tableIn (off := 211) (tgt := 253) hx hb dL_law_42 (by decide) (by decide) (by decide) (by decide) ?_
        refine lv_aload_n hx hb dL_law_253 rfl (lv_at hl 2 rfl) ?_
        refine ht_callVi (As := []) (rest := []) (wr := ht_M am dA (nI ln) (nI cn) (nI tn) F T SF SB LV NR RE ND) (q0 := 0) (ci := 0) hx hb hml hown hts hK hA I (xt_loss l D dA ad ln cn tn bf bb bt bo F T SF SB LV NR RE ND CR CS j4 j3) (cwV 0 hts (lw_V q180 q181 q182 q26 q183) rfl rfl rfl (by decide +kernel) (by decide)) rfl rfl [0, 1, 2, 3, 4, 5, 6, 7, 8, 9, 10] [11, 12, 13, 14, 15, 16, 17, 18, 19] rfl rfl (by decide) (by decide) (by decide) rfl hl.1 rfl (Nat.le_of_ble_eq_true rfl) dL_law_254 (by decide) (fun r1 u1 H locs hp1 I => ?_)
        have I : ht_I D (fun q : Nat => s.heap.size ≤ q) s.heap (ht_M am dA (nI ln) (nI cn) (nI tn) F T SF SB LV NR RE ND ++ ht_X ad dA (nI ln) (nI cn) (nI tn) bf bb bt bo F T SF SB LV NR RE ND CR CS) H locs := I
        refine lv_aload_n hx hb dL_law_257 rfl (lv_at hl 1 rfl) ?_
        refine ht_callVi (As := []) (rest := [.int r1]) (wr := ht_X ad dA (nI ln) (nI cn) (nI tn) bf bb bt bo F T SF SB LV NR RE ND CR CS) (q0 := 0) (ci := 1) hx hb hml hown hts hK hA I (mt_loss l D dA am ln cn tn F T SF SB LV NR RE ND j4 j3) (cwV 0 hts (lw_V q309 q310 q311 q27 q312) rfl rfl rfl (by decide +kernel) (by decide)) rfl rfl [0, 1, 2, 3, 4, 5, 6, 7, 8] [9, 10, 11, 12, 13, 14, 15, 16, 17, 18, 19] rfl rfl (by decide) (by decide) (by decide) rfl hl.1 rfl (Nat.le_of_ble_eq_true rfl) dL_law_258 (by decide) (fun r2 u2 H locs hp2 I => ?_)
        have I : ht_I D (fun q : Nat => s.heap.size ≤ q) s.heap (ht_X ad dA (nI ln) (nI cn) (nI tn) bf bb bt bo F T SF SB LV NR RE ND CR CS ++ ht_M am dA (nI ln) (nI cn) (nI tn) F T SF SB LV NR RE ND) H locs := I
        refine lv_icmp_eq (tgt := 398) hx hb dL_law_261 (by decide) (fun c_2 => ?_) (fun c_2 => ?_)
        · refine lv_iinc (v := nI (i + 3)) (lv' := [(3, .int (nI (i + 3))), (2, .ref (am 0)), (1, .ref (ad 0)), (0, .ref b)]) hx hb dL_law_398 hl (k := 0) rfl (nI_add i 3) (by decide) rfl (fun ls hl => ?_)
          refine lv_goto (tgt := 28) hx hb dL_law_401 (by decide) ?_
          exact ih (i + 3) cn tn bf bb bt bo F T SF SB LV NR RE ND CR CS (by omega) (by omega) J _ _ I ls hl
        · exact absurd (hp1.trans hp2.symm) c_2
      · refine lv_tableIn (off := 224) (tgt := 266) hx hb dL_law_42 (by decide) (by decide) (by decide) (by decide) ?_
        refine lv_aload_n hx hb dL_law_266 rfl (lv_at hl 2 rfl) ?_
        refine lv_aload_n hx hb dL_law_267 rfl (lv_at hl 3 rfl) ?_
        refine lv_iload_n hx hb dL_law_268 rfl (lv_at hl 0 rfl) ?_
        refine lv_iconst (v := nI 1) hx hb dL_law_269 (by decide) ?_
        refine lv_iadd hx hb dL_law_270 ?_
        refine ht_ti (nI_add i 1) ?_
        refine ht_sld hx hb hX hbl hbA I (by omega) (by omega) dL_law_271 ?_
        refine lv_aload_n hx hb dL_law_272 rfl (lv_at hl 3 rfl) ?_
        refine lv_iload_n hx hb dL_law_273 rfl (lv_at hl 0 rfl) ?_
        refine lv_iconst (v := nI 2) hx hb dL_law_274 (by decide) ?_
        refine lv_iadd hx hb dL_law_275 ?_
        refine ht_ti (nI_add i 2) ?_
        refine ht_sld hx hb hX hbl hbA I (by omega) (by omega) dL_law_276 ?_
        refine ht_callVi (As := [.int (xs (i + 1)), .int (xs (i + 2))]) (rest := []) (wr := ht_M am dA (nI ln) (nI cn) (nI tn) F T SF SB LV NR RE ND) (q0 := 0) (ci := 0) hx hb hml hown hts hK hA I (xt_feature l D dA ad ln cn tn bf bb bt bo F T SF SB LV NR RE ND CR CS (xs (i + 1)) (xs (i + 2)) j4) (cwV 2 hts (lw_V q184 q185 q186 q26 q187) rfl rfl rfl (by decide +kernel) (by decide)) rfl rfl [0, 1, 2, 3, 4, 5, 6, 7, 8, 9, 10] [11, 12, 13, 14, 15, 16, 17, 18, 19] rfl rfl (by decide) (by decide) (by decide) rfl hl.1 rfl (Nat.le_of_ble_eq_true rfl) dL_law_277 (by decide) (fun r1 u1 H locs hp1 I => ?_)
        have I : ht_I D (fun q : Nat => s.heap.size ≤ q) s.heap (ht_M am dA (nI ln) (nI cn) (nI tn) F T SF SB LV NR RE ND ++ ht_X ad dA (nI ln) (nI cn) (nI tn) bf bb bt bo F T SF SB LV NR RE ND CR CS) H locs := I
        refine lv_aload_n hx hb dL_law_280 rfl (lv_at hl 1 rfl) ?_
        refine lv_aload_n hx hb dL_law_281 rfl (lv_at hl 3 rfl) ?_
        refine lv_iload_n hx hb dL_law_282 rfl (lv_at hl 0 rfl) ?_
        refine lv_iconst (v := nI 1) hx hb dL_law_283 (by decide) ?_
        refine lv_iadd hx hb dL_law_284 ?_
        refine ht_ti (nI_add i 1) ?_
        refine ht_sld hx hb hX hbl hbA I (by omega) (by omega) dL_law_285 ?_
        refine lv_aload_n hx hb dL_law_286 rfl (lv_at hl 3 rfl) ?_
        refine lv_iload_n hx hb dL_law_287 rfl (lv_at hl 0 rfl) ?_
        refine lv_iconst (v := nI 2) hx hb dL_law_288 (by decide) ?_
        refine lv_iadd hx hb dL_law_289 ?_
        refine ht_ti (nI_add i 2) ?_
        refine ht_sld hx hb hX hbl hbA I (by omega) (by omega) dL_law_290 ?_
        refine ht_callVi (As := [.int (xs (i + 1)), .int (xs (i + 2))]) (rest := [.int r1]) (wr := ht_X ad dA (nI ln) (nI cn) (nI tn) bf bb bt bo F T SF SB LV NR RE ND CR CS) (q0 := 0) (ci := 1) hx hb hml hown hts hK hA I (mt_feature l D dA am ln cn tn F T SF SB LV NR RE ND (xs (i + 1)) (xs (i + 2)) j4) (cwV 2 hts (lw_V q313 q314 q315 q27 q316) rfl rfl rfl (by decide +kernel) (by decide)) rfl rfl [0, 1, 2, 3, 4, 5, 6, 7, 8] [9, 10, 11, 12, 13, 14, 15, 16, 17, 18, 19] rfl rfl (by decide) (by decide) (by decide) rfl hl.1 rfl (Nat.le_of_ble_eq_true rfl) dL_law_291 (by decide) (fun r2 u2 H locs hp2 I => ?_)
        have I : ht_I D (fun q : Nat => s.heap.size ≤ q) s.heap (ht_X ad dA (nI ln) (nI cn) (nI tn) bf bb bt bo F T SF SB LV NR RE ND CR CS ++ ht_M am dA (nI ln) (nI cn) (nI tn) F T SF SB LV NR RE ND) H locs := I
        refine lv_icmp_eq (tgt := 398) hx hb dL_law_294 (by decide) (fun c_2 => ?_) (fun c_2 => ?_)
        · refine lv_iinc (v := nI (i + 3)) (lv' := [(3, .int (nI (i + 3))), (2, .ref (am 0)), (1, .ref (ad 0)), (0, .ref b)]) hx hb dL_law_398 hl (k := 0) rfl (nI_add i 3) (by decide) rfl (fun ls hl => ?_)
          refine lv_goto (tgt := 28) hx hb dL_law_401 (by decide) ?_
          exact ih (i + 3) cn tn bf bb bt bo F T SF SB LV NR RE ND CR CS (by omega) (by omega) J _ _ I ls hl
        · exact absurd (hp1.trans hp2.symm) c_2
      · refine lv_tableIn (off := 257) (tgt := 299) hx hb dL_law_42 (by decide) (by decide) (by decide) (by decide) ?_
        refine lv_aload_n hx hb dL_law_299 rfl (lv_at hl 2 rfl) ?_
        refine lv_aload_n hx hb dL_law_300 rfl (lv_at hl 3 rfl) ?_
        refine lv_iload_n hx hb dL_law_301 rfl (lv_at hl 0 rfl) ?_
        refine lv_iconst (v := nI 1) hx hb dL_law_302 (by decide) ?_
        refine lv_iadd hx hb dL_law_303 ?_
        refine ht_ti (nI_add i 1) ?_
        refine ht_sld hx hb hX hbl hbA I (by omega) (by omega) dL_law_304 ?_
        refine lv_aload_n hx hb dL_law_305 rfl (lv_at hl 3 rfl) ?_
        refine lv_iload_n hx hb dL_law_306 rfl (lv_at hl 0 rfl) ?_
        refine lv_iconst (v := nI 2) hx hb dL_law_307 (by decide) ?_
        refine lv_iadd hx hb dL_law_308 ?_
        refine ht_ti (nI_add i 2) ?_
        refine ht_sld hx hb hX hbl hbA I (by omega) (by omega) dL_law_309 ?_
        refine ht_callVi (As := [.int (xs (i + 1)), .int (xs (i + 2))]) (rest := []) (wr := ht_M am dA (nI ln) (nI cn) (nI tn) F T SF SB LV NR RE ND) (q0 := 0) (ci := 0) hx hb hml hown hts hK hA I (xt_bound l D dA ad ln cn tn bf bb bt bo F T SF SB LV NR RE ND CR CS (xs (i + 1)) (xs (i + 2)) j4) (cwV 2 hts (lw_V q192 q193 q194 q26 q195) rfl rfl rfl (by decide +kernel) (by decide)) rfl rfl [0, 1, 2, 3, 4, 5, 6, 7, 8, 9, 10] [11, 12, 13, 14, 15, 16, 17, 18, 19] rfl rfl (by decide) (by decide) (by decide) rfl hl.1 rfl (Nat.le_of_ble_eq_true rfl) dL_law_310 (by decide) (fun r1 u1 H locs hp1 I => ?_)
        have I : ht_I D (fun q : Nat => s.heap.size ≤ q) s.heap (ht_M am dA (nI ln) (nI cn) (nI tn) F T SF SB LV NR RE ND ++ ht_X ad dA (nI ln) (nI cn) (nI tn) bf bb bt bo F T SF SB LV NR RE ND CR CS) H locs := I
        refine lv_aload_n hx hb dL_law_313 rfl (lv_at hl 1 rfl) ?_
        refine lv_aload_n hx hb dL_law_314 rfl (lv_at hl 3 rfl) ?_
        refine lv_iload_n hx hb dL_law_315 rfl (lv_at hl 0 rfl) ?_
        refine lv_iconst (v := nI 1) hx hb dL_law_316 (by decide) ?_
        refine lv_iadd hx hb dL_law_317 ?_
        refine ht_ti (nI_add i 1) ?_
        refine ht_sld hx hb hX hbl hbA I (by omega) (by omega) dL_law_318 ?_
        refine lv_aload_n hx hb dL_law_319 rfl (lv_at hl 3 rfl) ?_
        refine lv_iload_n hx hb dL_law_320 rfl (lv_at hl 0 rfl) ?_
        refine lv_iconst (v := nI 2) hx hb dL_law_321 (by decide) ?_
        refine lv_iadd hx hb dL_law_322 ?_
        refine ht_ti (nI_add i 2) ?_
        refine ht_sld hx hb hX hbl hbA I (by omega) (by omega) dL_law_323 ?_
        refine ht_callVi (As := [.int (xs (i + 1)), .int (xs (i + 2))]) (rest := [.int r1]) (wr := ht_X ad dA (nI ln) (nI cn) (nI tn) bf bb bt bo F T SF SB LV NR RE ND CR CS) (q0 := 0) (ci := 1) hx hb hml hown hts hK hA I (mt_bound l D dA am ln cn tn F T SF SB LV NR RE ND (xs (i + 1)) (xs (i + 2)) j4) (cwV 2 hts (lw_V q321 q322 q323 q27 q324) rfl rfl rfl (by decide +kernel) (by decide)) rfl rfl [0, 1, 2, 3, 4, 5, 6, 7, 8] [9, 10, 11, 12, 13, 14, 15, 16, 17, 18, 19] rfl rfl (by decide) (by decide) (by decide) rfl hl.1 rfl (Nat.le_of_ble_eq_true rfl) dL_law_324 (by decide) (fun r2 u2 H locs hp2 I => ?_)
        have I : ht_I D (fun q : Nat => s.heap.size ≤ q) s.heap (ht_X ad dA (nI ln) (nI cn) (nI tn) bf bb bt bo F T SF SB LV NR RE ND CR CS ++ ht_M am dA (nI ln) (nI cn) (nI tn) F T SF SB LV NR RE ND) H locs := I
        refine lv_icmp_eq (tgt := 398) hx hb dL_law_327 (by decide) (fun c_2 => ?_) (fun c_2 => ?_)
        · refine lv_iinc (v := nI (i + 3)) (lv' := [(3, .int (nI (i + 3))), (2, .ref (am 0)), (1, .ref (ad 0)), (0, .ref b)]) hx hb dL_law_398 hl (k := 0) rfl (nI_add i 3) (by decide) rfl (fun ls hl => ?_)
          refine lv_goto (tgt := 28) hx hb dL_law_401 (by decide) ?_
          exact ih (i + 3) cn tn bf bb bt bo F T SF SB LV NR RE ND CR CS (by omega) (by omega) J _ _ I ls hl
        · exact absurd (hp1.trans hp2.symm) c_2
      · refine lv_tableIn (off := 290) (tgt := 332) hx hb dL_law_42 (by decide) (by decide) (by decide) (by decide) ?_
        refine lv_aload_n hx hb dL_law_332 rfl (lv_at hl 2 rfl) ?_
        refine lv_aload_n hx hb dL_law_333 rfl (lv_at hl 3 rfl) ?_
        refine lv_iload_n hx hb dL_law_334 rfl (lv_at hl 0 rfl) ?_
        refine lv_iconst (v := nI 1) hx hb dL_law_335 (by decide) ?_
        refine lv_iadd hx hb dL_law_336 ?_
        refine ht_ti (nI_add i 1) ?_
        refine ht_sld hx hb hX hbl hbA I (by omega) (by omega) dL_law_337 ?_
        refine lv_aload_n hx hb dL_law_338 rfl (lv_at hl 3 rfl) ?_
        refine lv_iload_n hx hb dL_law_339 rfl (lv_at hl 0 rfl) ?_
        refine lv_iconst (v := nI 2) hx hb dL_law_340 (by decide) ?_
        refine lv_iadd hx hb dL_law_341 ?_
        refine ht_ti (nI_add i 2) ?_
        refine ht_sld hx hb hX hbl hbA I (by omega) (by omega) dL_law_342 ?_
        refine ht_callVi (As := [.int (xs (i + 1)), .int (xs (i + 2))]) (rest := []) (wr := ht_M am dA (nI ln) (nI cn) (nI tn) F T SF SB LV NR RE ND) (q0 := 0) (ci := 0) hx hb hml hown hts hK hA I (xt_value l D dA ad ln cn tn bf bb bt bo F T SF SB LV NR RE ND CR CS (xs (i + 1)) (xs (i + 2)) j4) (cwV 2 hts (lw_V q196 q197 q198 q26 q199) rfl rfl rfl (by decide +kernel) (by decide)) rfl rfl [0, 1, 2, 3, 4, 5, 6, 7, 8, 9, 10] [11, 12, 13, 14, 15, 16, 17, 18, 19] rfl rfl (by decide) (by decide) (by decide) rfl hl.1 rfl (Nat.le_of_ble_eq_true rfl) dL_law_343 (by decide) (fun r1 u1 H locs hp1 I => ?_)
        have I : ht_I D (fun q : Nat => s.heap.size ≤ q) s.heap (ht_M am dA (nI ln) (nI cn) (nI tn) F T SF SB LV NR RE ND ++ ht_X ad dA (nI ln) (nI cn) (nI tn) bf bb bt bo F T SF SB LV NR RE ND CR CS) H locs := I
        refine lv_aload_n hx hb dL_law_346 rfl (lv_at hl 1 rfl) ?_
        refine lv_aload_n hx hb dL_law_347 rfl (lv_at hl 3 rfl) ?_
        refine lv_iload_n hx hb dL_law_348 rfl (lv_at hl 0 rfl) ?_
        refine lv_iconst (v := nI 1) hx hb dL_law_349 (by decide) ?_
        refine lv_iadd hx hb dL_law_350 ?_
        refine ht_ti (nI_add i 1) ?_
        refine ht_sld hx hb hX hbl hbA I (by omega) (by omega) dL_law_351 ?_
        refine lv_aload_n hx hb dL_law_352 rfl (lv_at hl 3 rfl) ?_
        refine lv_iload_n hx hb dL_law_353 rfl (lv_at hl 0 rfl) ?_
        refine lv_iconst (v := nI 2) hx hb dL_law_354 (by decide) ?_
        refine lv_iadd hx hb dL_law_355 ?_
        refine ht_ti (nI_add i 2) ?_
        refine ht_sld hx hb hX hbl hbA I (by omega) (by omega) dL_law_356 ?_
        refine ht_callVi (As := [.int (xs (i + 1)), .int (xs (i + 2))]) (rest := [.int r1]) (wr := ht_X ad dA (nI ln) (nI cn) (nI tn) bf bb bt bo F T SF SB LV NR RE ND CR CS) (q0 := 0) (ci := 1) hx hb hml hown hts hK hA I (mt_value l D dA am ln cn tn F T SF SB LV NR RE ND (xs (i + 1)) (xs (i + 2)) j4) (cwV 2 hts (lw_V q325 q326 q327 q27 q328) rfl rfl rfl (by decide +kernel) (by decide)) rfl rfl [0, 1, 2, 3, 4, 5, 6, 7, 8] [9, 10, 11, 12, 13, 14, 15, 16, 17, 18, 19] rfl rfl (by decide) (by decide) (by decide) rfl hl.1 rfl (Nat.le_of_ble_eq_true rfl) dL_law_357 (by decide) (fun r2 u2 H locs hp2 I => ?_)
        have I : ht_I D (fun q : Nat => s.heap.size ≤ q) s.heap (ht_X ad dA (nI ln) (nI cn) (nI tn) bf bb bt bo F T SF SB LV NR RE ND CR CS ++ ht_M am dA (nI ln) (nI cn) (nI tn) F T SF SB LV NR RE ND) H locs := I
        refine lv_icmp_eq (tgt := 398) hx hb dL_law_360 (by decide) (fun c_2 => ?_) (fun c_2 => ?_)
        · refine lv_iinc (v := nI (i + 3)) (lv' := [(3, .int (nI (i + 3))), (2, .ref (am 0)), (1, .ref (ad 0)), (0, .ref b)]) hx hb dL_law_398 hl (k := 0) rfl (nI_add i 3) (by decide) rfl (fun ls hl => ?_)
          refine lv_goto (tgt := 28) hx hb dL_law_401 (by decide) ?_
          exact ih (i + 3) cn tn bf bb bt bo F T SF SB LV NR RE ND CR CS (by omega) (by omega) J _ _ I ls hl
        · exact absurd (hp1.trans hp2.symm) c_2
      · refine lv_tableIn (off := 323) (tgt := 365) hx hb dL_law_42 (by decide) (by decide) (by decide) (by decide) ?_
        refine lv_aload_n hx hb dL_law_365 rfl (lv_at hl 2 rfl) ?_
        refine lv_aload_n hx hb dL_law_366 rfl (lv_at hl 3 rfl) ?_
        refine lv_iload_n hx hb dL_law_367 rfl (lv_at hl 0 rfl) ?_
        refine lv_iconst (v := nI 1) hx hb dL_law_368 (by decide) ?_
        refine lv_iadd hx hb dL_law_369 ?_
        refine ht_ti (nI_add i 1) ?_
        refine ht_sld hx hb hX hbl hbA I (by omega) (by omega) dL_law_370 ?_
        refine lv_aload_n hx hb dL_law_371 rfl (lv_at hl 3 rfl) ?_
        refine lv_iload_n hx hb dL_law_372 rfl (lv_at hl 0 rfl) ?_
        refine lv_iconst (v := nI 2) hx hb dL_law_373 (by decide) ?_
        refine lv_iadd hx hb dL_law_374 ?_
        refine ht_ti (nI_add i 2) ?_
        refine ht_sld hx hb hX hbl hbA I (by omega) (by omega) dL_law_375 ?_
        refine ht_callVi (As := [.int (xs (i + 1)), .int (xs (i + 2))]) (rest := []) (wr := ht_M am dA (nI ln) (nI cn) (nI tn) F T SF SB LV NR RE ND) (q0 := 0) (ci := 0) hx hb hml hown hts hK hA I (xt_rows l D dA ad ln cn tn bf bb bt bo F T SF SB LV NR RE ND CR CS (xs (i + 1)) (xs (i + 2)) j4) (cwV 2 hts (lw_V q200 q201 q202 q26 q203) rfl rfl rfl (by decide +kernel) (by decide)) rfl rfl [0, 1, 2, 3, 4, 5, 6, 7, 8, 9, 10] [11, 12, 13, 14, 15, 16, 17, 18, 19] rfl rfl (by decide) (by decide) (by decide) rfl hl.1 rfl (Nat.le_of_ble_eq_true rfl) dL_law_376 (by decide) (fun r1 u1 H locs hp1 I => ?_)
        have I : ht_I D (fun q : Nat => s.heap.size ≤ q) s.heap (ht_M am dA (nI ln) (nI cn) (nI tn) F T SF SB LV NR RE ND ++ ht_X ad dA (nI ln) (nI cn) (nI tn) bf bb bt bo F T SF SB LV NR RE ND CR CS) H locs := I
        refine lv_aload_n hx hb dL_law_379 rfl (lv_at hl 1 rfl) ?_
        refine lv_aload_n hx hb dL_law_380 rfl (lv_at hl 3 rfl) ?_
        refine lv_iload_n hx hb dL_law_381 rfl (lv_at hl 0 rfl) ?_
        refine lv_iconst (v := nI 1) hx hb dL_law_382 (by decide) ?_
        refine lv_iadd hx hb dL_law_383 ?_
        refine ht_ti (nI_add i 1) ?_
        refine ht_sld hx hb hX hbl hbA I (by omega) (by omega) dL_law_384 ?_
        refine lv_aload_n hx hb dL_law_385 rfl (lv_at hl 3 rfl) ?_
        refine lv_iload_n hx hb dL_law_386 rfl (lv_at hl 0 rfl) ?_
        refine lv_iconst (v := nI 2) hx hb dL_law_387 (by decide) ?_
        refine lv_iadd hx hb dL_law_388 ?_
        refine ht_ti (nI_add i 2) ?_
        refine ht_sld hx hb hX hbl hbA I (by omega) (by omega) dL_law_389 ?_
        refine ht_callVi (As := [.int (xs (i + 1)), .int (xs (i + 2))]) (rest := [.int r1]) (wr := ht_X ad dA (nI ln) (nI cn) (nI tn) bf bb bt bo F T SF SB LV NR RE ND CR CS) (q0 := 0) (ci := 1) hx hb hml hown hts hK hA I (mt_rows l D dA am ln cn tn F T SF SB LV NR RE ND (xs (i + 1)) (xs (i + 2)) j4) (cwV 2 hts (lw_V q329 q330 q331 q27 q332) rfl rfl rfl (by decide +kernel) (by decide)) rfl rfl [0, 1, 2, 3, 4, 5, 6, 7, 8] [9, 10, 11, 12, 13, 14, 15, 16, 17, 18, 19] rfl rfl (by decide) (by decide) (by decide) rfl hl.1 rfl (Nat.le_of_ble_eq_true rfl) dL_law_390 (by decide) (fun r2 u2 H locs hp2 I => ?_)
        have I : ht_I D (fun q : Nat => s.heap.size ≤ q) s.heap (ht_X ad dA (nI ln) (nI cn) (nI tn) bf bb bt bo F T SF SB LV NR RE ND CR CS ++ ht_M am dA (nI ln) (nI cn) (nI tn) F T SF SB LV NR RE ND) H locs := I
        refine lv_icmp_eq (tgt := 398) hx hb dL_law_393 (by decide) (fun c_2 => ?_) (fun c_2 => ?_)
        · refine lv_iinc (v := nI (i + 3)) (lv' := [(3, .int (nI (i + 3))), (2, .ref (am 0)), (1, .ref (ad 0)), (0, .ref b)]) hx hb dL_law_398 hl (k := 0) rfl (nI_add i 3) (by decide) rfl (fun ls hl => ?_)
          refine lv_goto (tgt := 28) hx hb dL_law_401 (by decide) ?_
          exact ih (i + 3) cn tn bf bb bt bo F T SF SB LV NR RE ND CR CS (by omega) (by omega) J _ _ I ls hl
        · exact absurd (hp1.trans hp2.symm) c_2
      · refine lv_tableOut (tgt := 398) hx hb dL_law_42 (Or.inr (by rw [nI_toInt (by omega)]; omega)) (by decide) ?_
        refine lv_iinc (v := nI (i + 3)) (lv' := [(3, .int (nI (i + 3))), (2, .ref (am 0)), (1, .ref (ad 0)), (0, .ref b)]) hx hb dL_law_398 hl (k := 0) rfl (nI_add i 3) (by decide) rfl (fun ls hl => ?_)
        refine lv_goto (tgt := 28) hx hb dL_law_401 (by decide) ?_
        exact ih (i + 3) cn tn bf bb bt bo F T SF SB LV NR RE ND CR CS (by omega) (by omega) J _ _ I ls hl
end
section
/-- cell(script, 0), called -/
theorem lt_callcell {p : Program} {l : Launch} {e : Env} {s : State} {m : MethodId} {below : List Frame} {meth : Method} {c : Code} {H : Heap} {locs : List Loc} {cells slots : Nat} {Q : State → Prop} {pc : Nat} {ls : Array Slot} {rest : List Value} {D : va_G} {A : Nat → Prop} {w : va_W} {b L : Nat} {xs : Nat → Int32} (hx : p.tables.exec = Jvm.exec) (hb : c.code = code) (hml : c.maxLocals = 4) (hown : s.vm.findClass R_law = some m.cls) (hts : ∀ w ∈ lw_all, w.before #[Value.ref b] s = true) (hL : L ≤ 193) (hX : va_X b L xs s s.heap) (hbl : b < s.heap.size) (hbA : ¬ A b) (hA : ∀ q : Nat, s.heap.size ≤ q → A q) (I : ht_I D A s.heap w H locs)
    (isR : List Nat) (hR : isR.map (fun i => w[i]?) = w.map some) (hnR : va_nd isR = true) (hsz : ls.size = 4) (hroom : (rest.map fun v => v.category).sum ≤ 8) (hf : cells ≤ room_1.cells ∧ slots ≤ room_1.slots) (hdg : decode code pc = .ok (.invokestatic 9, 3))
    (kk : ∀ (H1 : Heap) (locs1 : List Loc), ht_I D A s.heap w H1 locs1 → W p l e room_1 s m #[Value.ref b] below meth c H1 locs1 cells slots Q (F0 m (pc + 3) ls (.int (ht_sc L xs) :: rest))) : W p l e room_1 s m #[Value.ref b] below meth c H locs cells slots Q (F0 m pc ls (.int (nI 0) :: .ref b :: rest)) := by
  have hFc := va_free (wc := []) I.2.1 I.2.2 hA [] rfl
  refine va_calli (va_runS (As := [.ref b, .int (nI 0)]) (rest := rest) ⟨hx, hb, hml, hown, hts⟩ (lt_cell l b L xs hL H.size) (va_cwS 2 hts (lw_S q204 q205 q25 q206) rfl rfl rfl (by decide +kernel) (by decide)) ⟨fun a U g mk q => ?_, fun U hU hW => ⟨rfl, by rw [hU], ?_, Nat.lt_of_lt_of_le hbl I.2.2.1⟩⟩ rfl rfl hsz rfl (lv_room hroom) hdg hf) I.2.2 (fun q _ h => hFc q h) hFc (fun r u t H1 locs1 ht hvm hp hB hz1 hk1 hS1 => ?_)
  · obtain ⟨q0, q1, q2, q3⟩ := q
    exact ⟨q0, q1, va_X.moved (u := U) (U := U.calling g mk a) (Vm.Alike.refl U.vm) q2, q3⟩
  · rw [hU]
    exact va_X.moved hW.alike (hX.kept (I.2.2.2.1 b hbl hbA))
  · subst hp
    obtain ⟨hP1, hD1⟩ := va_join (wr := w) (w1 := []) I.1 I.2.1 [] isR rfl hR hnR (fun _ _ h => by cases h) hk1 hFc (fun k q h => by simp at h) ⟨fun i j p q h => by simp at h, fun k q h => by simp at h⟩
    rw [List.append_nil] at hP1 hD1
    exact kk H1 locs1 ⟨hP1, hD1, hS1⟩
set_option maxHeartbeats 4000000 in
set_option maxRecDepth 100000 in
/-- YOUR PART: from the entry, for every script of at most 193 ints, the law comes to its end with true -/
theorem whole_start {p : Program} {e : Env} {s : State} {m : MethodId} {below : List Frame} {meth : Method} {c : Code} (l : Launch) {b L : Nat} {xs : Nat → Int32} (hL : L ≤ 193) (C0 : lw_At p s m meth c b L xs) : W p l e room_1 s m #[Value.ref b] below meth c s.heap [] 0 0 (lw_Z below #[Value.ref b] s) (entryFrame m ([Value.ref b] : List Value).toArray 4) := by
  obtain ⟨hx, hb, hr, hml, hown, hts0, hX, hbl, hlocks, hgv⟩ := id C0
  have hts : ∀ w ∈ lw_all, w.before #[Value.ref b] s = true := fun w h => hts0 w (lw_all_tbl h)
  have hA : ∀ q : Nat, s.heap.size ≤ q → (fun q : Nat => s.heap.size ≤ q) q := fun _ h => h
  have hbA : ¬ (fun q : Nat => s.heap.size ≤ q) b := Nat.not_le.mpr hbl
  obtain ⟨c0, iS0, hKn0⟩ := u_known (C := RX1) (T := TX1) (N := 17) (n := 17) hts0 (fun w h => lw_all_tbl (in_X1 w h)) (hts0 _ (lw_all_tbl q29))
  obtain ⟨c1, iS1, hKn1⟩ := u_known (C := RX2) (T := TX2) (N := 11) (n := 11) hts0 (fun w h => lw_all_tbl (in_X2 w h)) (hts0 _ (lw_all_tbl q208))
  obtain ⟨D, hKc⟩ : ∃ D : va_G, ∀ (k : Nat) (q : vw_C), vwCl[k]? = some q → u_Kn s q.1 q.2.1 q.2.2 (D.1 k) (D.2 k) := by
    refine ⟨(fun k => if k = 0 then c0 else c1, fun k => if k = 0 then iS0 else iS1), ?_⟩
    intro k q hq
    match k, hq with
    | 0, hq => cases hq; exact hKn0
    | 1, hq => cases hq; exact hKn1
    | k + 2, hq => simp [vwCl] at hq
  have hK : va_K D vwCl [] s := ⟨hKc, fun k q h => by simp at h⟩
  have I : ht_I D (fun q : Nat => s.heap.size ≤ q) s.heap [] s.heap [] := ⟨fun k q h => by simp at h, ⟨fun i j p q h => by simp at h, fun k q h => by simp at h⟩, va_S.rf⟩
  have hl := lv_entry ([.ref b]) (n := 4) (Nat.le_of_ble_eq_true rfl)
  rw [lg_entry_eq]
  generalize (lg_sl ([.ref b]) ++ List.replicate (4 - (lg_sl ([.ref b])).length) Slot.unset).toArray = ls at hl ⊢
  have hl : lv_has ls 4 [(0, .ref b)] := hl
  refine va_new (ci := 0) (fs := [.int 0, .int 0, .null, .null, .int 0, .null, .null, .null, .null, .null, .null, .null, .null, .int 0, .int 0, .long 0, .long 0]) (C := RX1) (T := TX1) (N := 17) hx hb hts in_X1 tyX1 tyX1_ok hown (hts _ q28) (hts _ q29) (hts _ q26) hK I.1 I.2.1 I.2.2 hA rfl (fun j hj => by rcases (show j = 0 ∨ j = 1 ∨ j = 2 ∨ j = 3 ∨ j = 4 ∨ j = 5 ∨ j = 6 ∨ j = 7 ∨ j = 8 ∨ j = 9 ∨ j = 10 ∨ j = 11 ∨ j = 12 ∨ j = 13 ∨ j = 14 ∨ j = 15 ∨ j = 16 by omega) with rfl | rfl | rfl | rfl | rfl | rfl | rfl | rfl | rfl | rfl | rfl | rfl | rfl | rfl | rfl | rfl | rfl <;> rfl) (by decide) (by decide) dL_law_0 (fun qx H hP hD hS => ?_)
  have I : ht_I D (fun q : Nat => s.heap.size ≤ q) s.heap (ht_X0 qx) H _ := ⟨hP, hD, hS⟩
  refine W.widen (k := 1) (n := 17) (by decide) (by decide) ?_
  refine lv_dup hx hb dL_law_3 rfl ?_
  refine lv_aload_n hx hb dL_law_4 rfl (lv_at hl 0 rfl) ?_
  refine lv_iconst (v := nI 0) hx hb dL_law_5 (by decide) ?_
  refine lt_callcell hx hb hml hown hts hL hX hbl hbA hA I [0] rfl (by decide) hl.1 (Nat.le_of_ble_eq_true rfl) (by decide) dL_law_6 (fun H locs I => ?_)
  have hPc := I.1.sub (ws' := ht_X0 qx) [0] rfl
  have hDc := I.2.1.sub (ws' := ht_X0 qx) [0] (by decide) rfl
  have hFc := va_free (wc := ht_X0 qx) I.2.1 I.2.2 hA [0] rfl
  refine va_callv (va_runI (As := [.int (ht_sc L xs)]) (rest := [.ref qx]) ⟨hx, hb, hml, hown, hts⟩ (xt_init l D qx (ht_sc L xs) H.size) (cwI 1 hts (lw_meth q32) rfl rfl rfl (hts _ q26) (hts _ q30) (hts _ q31) rfl (by decide +kernel) (by decide)) ⟨fun a U g mk q => by obtain ⟨q0, q1, qP, qK, qD⟩ := q; exact ⟨q0, q1, qP, va_K.moved (u := U) (U := U.calling g mk a) (Vm.Alike.refl U.vm) qK, qD⟩, fun U hU hW => ⟨rfl, by rw [hU], by rw [hU]; exact hPc, va_K.moved hW.alike hK, hDc.weaken (fun _ _ _ _ => trivial)⟩⟩ rfl rfl hl.1 rfl (lv_room (Nat.le_of_ble_eq_true rfl)) dL_law_9 (by decide)) I.2.2 (fun q _ h => hFc q h) hFc (fun u t H1 locs ht hvm hw hB hz1 hk1 hS => ?_)
  obtain ⟨ad, dA, had, hP1, hK1, hD1⟩ := hB
  rw [ht] at hP1
  have hK := va_K.moved hvm.symm hK1
  obtain ⟨hP, hD⟩ := va_join (wr := []) (w1 := ht_X ad dA (nI (ht_lz (ht_sc L xs))) (nI 0) (nI 0) 0 0 0 0 ht_z ht_z ht_z ht_z ht_z ht_z ht_z ht_z ht_z ht_z) I.1 I.2.1 [0] [] rfl rfl (by decide) (by decide) hk1 hFc hP1 hD1
  have J : ht_I D (fun q : Nat => s.heap.size ≤ q) s.heap (ht_X ad dA (nI (ht_lz (ht_sc L xs))) (nI 0) (nI 0) 0 0 0 0 ht_z ht_z ht_z ht_z ht_z ht_z ht_z ht_z ht_z ht_z) H1 locs := ⟨hP, hD, hS⟩
  clear hPc hDc hFc hk1 hP1 hD1 hz1 hP hD hS I
  subst had
  have I := J
  clear J
  refine W.widen (k := 11) (n := 561) (by decide) (by decide) ?_
  refine lv_astore_n (lv' := [(1, .ref (ad 0)), (0, .ref b)]) hx hb dL_law_12 rfl hl (by decide) rfl (fun ls hl => ?_)
  refine va_new (ci := 1) (fs := [.int 0, .int 0, .null, .null, .int 0, .null, .null, .null, .null, .null, .null]) (C := RX2) (T := TX2) (N := 11) hx hb hts in_X2 tyX2 tyX2_ok hown (hts _ q207) (hts _ q208) (hts _ q27) hK I.1 I.2.1 I.2.2 hA rfl (fun j hj => by rcases (show j = 0 ∨ j = 1 ∨ j = 2 ∨ j = 3 ∨ j = 4 ∨ j = 5 ∨ j = 6 ∨ j = 7 ∨ j = 8 ∨ j = 9 ∨ j = 10 by omega) with rfl | rfl | rfl | rfl | rfl | rfl | rfl | rfl | rfl | rfl | rfl <;> rfl) (by decide) (by decide) dL_law_13 (fun qm H hP hD hS => ?_)
  have I : ht_I D (fun q : Nat => s.heap.size ≤ q) s.heap (ht_X ad dA (nI (ht_lz (ht_sc L xs))) (nI 0) (nI 0) 0 0 0 0 ht_z ht_z ht_z ht_z ht_z ht_z ht_z ht_z ht_z ht_z ++ ht_M0 qm) H _ := ⟨hP, hD, hS⟩
  refine W.widen (k := 12) (n := 572) (by decide) (by decide) ?_
  refine lv_dup hx hb dL_law_16 rfl ?_
  refine lv_aload_n hx hb dL_law_17 rfl (lv_at hl 1 rfl) ?_
  refine lv_iconst (v := nI 0) hx hb dL_law_18 (by decide) ?_
  refine lt_callcell hx hb hml hown hts hL hX hbl hbA hA I [0, 1, 2, 3, 4, 5, 6, 7, 8, 9, 10, 11] rfl (by decide) hl.1 (Nat.le_of_ble_eq_true rfl) (by decide) dL_law_19 (fun H locs I => ?_)
  have hPc := I.1.sub (ws' := ht_M0 qm) [11] rfl
  have hDc := I.2.1.sub (ws' := ht_M0 qm) [11] (by decide) rfl
  have hFc := va_free (wc := ht_M0 qm) I.2.1 I.2.2 hA [11] rfl
  have hK0 := hK.sub (tys' := []) [] rfl
  refine va_callv (va_runI (As := [.int (ht_sc L xs)]) (rest := [.ref qm]) ⟨hx, hb, hml, hown, hts⟩ (mt_init l D qm (ht_sc L xs) H.size) (cwI 1 hts (lw_meth q211) rfl rfl rfl (hts _ q27) (hts _ q209) (hts _ q210) rfl (by decide +kernel) (by decide)) ⟨fun a U g mk q => by obtain ⟨q0, q1, qP, qK, qD⟩ := q; exact ⟨q0, q1, qP, va_K.moved (u := U) (U := U.calling g mk a) (Vm.Alike.refl U.vm) qK, qD⟩, fun U hU hW => ⟨rfl, by rw [hU], by rw [hU]; exact hPc, va_K.moved hW.alike hK0, hDc.weaken (fun _ _ _ _ => trivial)⟩⟩ rfl rfl hl.1 rfl (lv_room (Nat.le_of_ble_eq_true rfl)) dL_law_22 (by decide)) I.2.2 (fun q _ h => hFc q h) hFc (fun u t H1 locs ht hvm hw hB hz1 hk1 hS => ?_)
  obtain ⟨am, dA2, ham, hP1, hK1, hD1⟩ := hB
  rw [ht] at hP1
  have hK2 := va_K.moved hvm.symm hK1
  have e1 : s.vm.findClass ("[" ++ FieldType.int.toString) = some dA := (hK.2 0 _ rfl).2
  have e2 : s.vm.findClass ("[" ++ FieldType.int.toString) = some dA2 := (hK2.2 0 _ rfl).2
  have e3 : dA = dA2 := Option.some.inj (e1.symm.trans e2)
  subst e3
  obtain ⟨hP, hD⟩ := va_join (wr := ht_X ad dA (nI (ht_lz (ht_sc L xs))) (nI 0) (nI 0) 0 0 0 0 ht_z ht_z ht_z ht_z ht_z ht_z ht_z ht_z ht_z ht_z) (w1 := ht_M am dA (nI (ht_lz (ht_sc L xs))) (nI 0) (nI 0) ht_z ht_z ht_z ht_z ht_z ht_z ht_z ht_z) I.1 I.2.1 [11] [0, 1, 2, 3, 4, 5, 6, 7, 8, 9, 10] rfl rfl (by decide) (by decide) hk1 hFc hP1 hD1
  have J : ht_I D (fun q : Nat => s.heap.size ≤ q) s.heap (ht_X ad dA (nI (ht_lz (ht_sc L xs))) (nI 0) (nI 0) 0 0 0 0 ht_z ht_z ht_z ht_z ht_z ht_z ht_z ht_z ht_z ht_z ++ ht_M am dA (nI (ht_lz (ht_sc L xs))) (nI 0) (nI 0) ht_z ht_z ht_z ht_z ht_z ht_z ht_z ht_z) H1 locs := ⟨hP, hD, hS⟩
  clear hPc hDc hFc hk1 hP1 hD1 hz1 hP hD hS I
  subst ham
  have I := J
  clear J
  refine W.widen (k := 20) (n := 780) (by decide) (by decide) ?_
  refine lv_astore_n (lv' := [(2, .ref (am 0)), (1, .ref (ad 0)), (0, .ref b)]) hx hb dL_law_25 rfl hl (by decide) rfl (fun ls hl => ?_)
  refine lv_iconst (v := nI 1) hx hb dL_law_26 (by decide) ?_
  refine lv_istore_n (lv' := [(3, .int (nI 1)), (2, .ref (am 0)), (1, .ref (ad 0)), (0, .ref b)]) hx hb dL_law_27 rfl hl (by decide) rfl (fun ls hl => ?_)
  exact ht_loop l hL C0 hK L 1 0 0 0 0 0 0 ht_z ht_z ht_z ht_z ht_z ht_z ht_z ht_z ht_z ht_z (by omega) (by omega) ⟨(ht_lz_in _).1, (ht_lz_in _).2, by omega, by omega, fun i hi => absurd hi (by omega), fun t ht => absurd ht (by omega)⟩ _ _ I ls hl
end
section
set_option maxHeartbeats 4000000 in
theorem lw_walk (l : Launch) (b : Addr) (xs : List Int32) : MetFree l x (headSpec (Jvm.Cond.code x code maxLocals ret :: tables_1) room_1) (lw_P b xs) (fun _ _ _ _ _ => True) lw_Q := by
  refine MetFree.of_bodyS (code := code) (maxLocals := maxLocals) (ret := ret) (by decide) ?_ ?_
  · intro args s m h hn
    obtain ⟨meth, c, h1, h2, h3, h4, h5, h6, -, -⟩ := Cond.code_spec hn (atoms_spec (ws := Jvm.Cond.code x code maxLocals ret :: tables_1) h _ List.mem_cons_self)
    exact ⟨meth, c, h1, h2, h3, h4, h5, h6⟩
  · intro p e s m args below meth c s₁ B hml0 hP _
    obtain ⟨rfl, hx, hbd, hgv⟩ := hP
    obtain ⟨scr, harrAt, hlist, hof, hsmall⟩ := hx
    obtain ⟨hcb, hkn, -, -⟩ := State.arrayAt?_spec harrAt
    have hown : s.vm.findClass R_law = some m.cls := findClass_of_methodNamed B.named
    have hts0 : ∀ c ∈ (Jvm.Cond.code x code maxLocals ret :: tables_1), c.before #[Value.ref b] s = true := atoms_spec (ws := Jvm.Cond.code x code maxLocals ret :: tables_1) B.pre
    have hts : ∀ w ∈ lw_tbl, w.before #[Value.ref b] s = true := k2_hts_sels lw_privs (fun w hw => hts0 w (List.mem_cons_of_mem _ hw)) lw_privs_ok
    have hml : c.maxLocals = 4 := B.maxLocals_eq (hts0 _ List.mem_cons_self)
    have X₀ : Stand p l e room_1 s m #[Value.ref b] below meth c s₁ [] 0 0 := Stand.of_body B
    have hh0 : s₁.heap = s.heap := by rw [B.state]; rfl
    have hsz : scr.slots.size = xs.length := by rw [← Array.length_toList, hlist, List.length_map]
    have hval : ∀ j : Nat, j < xs.length → scr.slots[j]? = some (.int (xs.getD j 0)) := fun j hj => by
      rw [← Array.getElem?_toList, hlist]
      simp [hj]
    have hbl : b < s.heap.size := (Array.getElem?_eq_some_iff.mp hcb).1
    have hX : va_X b xs.length (fun j => xs.getD j 0) s s.heap := ⟨scr, hcb, hof, hkn, hsz, hval⟩
    have K : W p l e room_1 s m #[Value.ref b] below meth c s₁.heap [] 0 0 (lw_Z below #[Value.ref b] s) (entryFrame m ([Value.ref b] : List Value).toArray 4) := by
      rw [hh0]
      exact whole_start l hbd ⟨B.exec, B.bytes, B.returns, hml, hown, hts, hX, hbl, B.notSynchronized, hgv⟩
    obtain ⟨t, a1, o, b1, b2, b3⟩ := K s₁ rfl X₀
    exact ⟨t, o, a1, b1, b2, b3⟩
theorem lw_pre_spec {args : Array Value} {s : State} (h : (Jvm.Cond.and given_1 narrow_1).before args s = true) (hr : rest_1_c.before args s = true) : ∃ (b : Addr) (xs : List Int32), lw_P b xs args s := by
  have hs := flat_of_before _ h
  have hq := flat_of_before _ hr
  have hc : (Cond.count 1).before args s = true := hs _ (by decide +kernel)
  have harr : (Cond.arrayOf (.arg 0) .int).before args s = true := hs _ (by decide +kernel)
  have hle : (Cond.le (.length (.arg 0)) (.int 193)).before args s = true := hs _ (by decide +kernel)
  have hlen : (Cond.isInt (.length (.arg 0))).before args s = true := hq _ (by decide +kernel)
  have hall : (Cond.all (.arg 0) (.isInt (.elem (.arg 0) (.index 0)))).before args s = true := hq _ (by decide +kernel)
  obtain ⟨b, xs, hb, hx⟩ := State.ints_of_pre rfl harr hlen hall
  have hsm : xs.length < 2 ^ 31 := hx.choose_spec.2.2.2
  have hev : (Term.length (.arg 0)).eval args s none [] s = some (.int xs.length.toInt32) := hx.length_eval hb
  have hv := Cond.le_ints hev (show (Term.int 193).eval args s none [] s = some (.int 193) from rfl)
  have hd : xs.length.toInt32 ≤ 193 := by
    simpa [Cond.before, Cond.holds, hv] using hle
  have hN : xs.length ≤ 193 := (Int32.ofNat_le_ofNat hsm (by decide)).mp (show Int32.ofNat xs.length ≤ Int32.ofNat 193 from hd)
  exact ⟨b, xs, Cond.one_arg hc (show args[0]? = some (.ref b) from hb), hx, hN, h⟩
theorem lw_comes (l : Launch) : Comes l x (Jvm.Cond.code x code maxLocals ret :: tables_1) room_1 (fun tb e args s => Calls_1 tb e args s ∧ rest_1 tb e args s ∧ Pre_1 tb e args s)
    (fun _ _ args s o t => lw_Q args s o t) := by
  intro p e ha hc hk s m args below hf hfit hheap happ hpre
  obtain ⟨b, xs, hP⟩ := lw_pre_spec hpre.2.2 hpre.2.1
  obtain ⟨k, o, h1, h2, h3, hQ⟩ := lw_walk l b xs p e ha hc hk s m args below hf ((Spec.applies_iff_loose hf).mp happ).1 hP trivial
  exact ⟨k, o, h1, h2, h3, hQ⟩
theorem lw_frame {s t : State} {o : Outcome} {args : Array Value} (h : Framed s o t [] 600000 7290000) :
    Framed s o t (fieldLocs frame_1_writes args s ++ arrayLocs frame_1_arrays args s ++ staticLocs frame_1_statics s) 600000 7290000 := h
theorem lw_limb (L : Cond) (hL : ∀ (args : Array Value) (s t : State), L.after args s (.returned (some (.int 1))) t = true) :
    ArmFor flags0 classFile x code maxLocals ret World_1 tables_1 room_1 Calls_1 rest_1 Pre_1
      (fun tb e a s o t => postC L tb e a s o t ∧ Framed s o t (fieldLocs frame_1_writes a s ++ arrayLocs frame_1_arrays a s ++ staticLocs frame_1_statics s) 600000 7290000) := by
  intro l _ _ _ p e ha hc hk s m args below hf hfit hheap happ hpre
  obtain ⟨k, o, h1, h2, h3, rfl, hF⟩ := lw_comes l p e ha hc hk s m args below hf hfit hheap happ hpre
  exact ⟨k, _, h1, h2, h3, hL args s _, lw_frame hF⟩
theorem i_vc : Claimed_1_1 ∧ Claimed_1_2 := ⟨lw_limb limb_1_1 (fun args s t => by simp [limb_1_1, Cond.after, Cond.holds, Cond.value]), lw_limb limb_1_2 (fun args s t => Cond.after_iff.mpr (by
  first | (rw [show limb_1_2 = Cond.eq .result (.int 1) from rfl, Cond.eq_ints (x := 1) (y := 1) rfl rfl]; simp; done) | (simp [limb_1_2, Cond.value, Term.eval]; done)))⟩
end
